section
-- ===== PART A: goes FIRST, ahead of the names: the tables' words, and 'selects' of the private methods out of them =====
/-- a private method of a class that the tables say can be made, by its rows of tables_1 -/
def lw_okq (q : MethodName × Nat) : Prop := (q.1.cls ≠ "java/lang/invoke/MethodHandle" ∧ q.1.cls ≠ "java/lang/invoke/VarHandle") ∧ Cond.instantiable q.1.cls q.2 ∈ tables_1 ∧ Cond.privateMethod q.1 ∈ tables_1 ∧ Cond.instanceMethod q.1 ∈ tables_1
theorem lw_p0 : lw_okq (⟨"EspAntiReplay", "judge", "(IIZ)I"⟩, 10) := ⟨⟨by decide +kernel, by decide +kernel⟩, List.mem_of_getElem? (i := 4) (by decide +kernel), List.mem_of_getElem? (i := 60) (by decide +kernel), List.mem_of_getElem? (i := 61) (by decide +kernel)⟩
theorem lw_p1 : lw_okq (⟨"EspAntiReplay", "infer", "(II)I"⟩, 10) := ⟨⟨by decide +kernel, by decide +kernel⟩, List.mem_of_getElem? (i := 4) (by decide +kernel), List.mem_of_getElem? (i := 64) (by decide +kernel), List.mem_of_getElem? (i := 65) (by decide +kernel)⟩
theorem lw_p2 : lw_okq (⟨"EspAntiReplay", "isSeen", "(II)Z"⟩, 10) := ⟨⟨by decide +kernel, by decide +kernel⟩, List.mem_of_getElem? (i := 4) (by decide +kernel), List.mem_of_getElem? (i := 68) (by decide +kernel), List.mem_of_getElem? (i := 69) (by decide +kernel)⟩
theorem lw_p3 : lw_okq (⟨"EspAntiReplay", "topOf", "(I)I"⟩, 10) := ⟨⟨by decide +kernel, by decide +kernel⟩, List.mem_of_getElem? (i := 4) (by decide +kernel), List.mem_of_getElem? (i := 72) (by decide +kernel), List.mem_of_getElem? (i := 73) (by decide +kernel)⟩
theorem lw_p4 : lw_okq (⟨"EspAntiReplay", "accept", "(II)V"⟩, 10) := ⟨⟨by decide +kernel, by decide +kernel⟩, List.mem_of_getElem? (i := 4) (by decide +kernel), List.mem_of_getElem? (i := 76) (by decide +kernel), List.mem_of_getElem? (i := 77) (by decide +kernel)⟩
theorem lw_p5 : lw_okq (⟨"EspAntiReplay", "place", "(II)I"⟩, 10) := ⟨⟨by decide +kernel, by decide +kernel⟩, List.mem_of_getElem? (i := 4) (by decide +kernel), List.mem_of_getElem? (i := 80) (by decide +kernel), List.mem_of_getElem? (i := 81) (by decide +kernel)⟩
theorem lw_p6 : lw_okq (⟨"EspAntiReplayModel", "bad", "(I)Z"⟩, 6) := ⟨⟨by decide +kernel, by decide +kernel⟩, List.mem_of_getElem? (i := 146) (by decide +kernel), List.mem_of_getElem? (i := 179) (by decide +kernel), List.mem_of_getElem? (i := 180) (by decide +kernel)⟩
theorem lw_p7 : lw_okq (⟨"EspAntiReplayModel", "verdict", "(III)I"⟩, 6) := ⟨⟨by decide +kernel, by decide +kernel⟩, List.mem_of_getElem? (i := 146) (by decide +kernel), List.mem_of_getElem? (i := 183) (by decide +kernel), List.mem_of_getElem? (i := 184) (by decide +kernel)⟩
theorem lw_p8 : lw_okq (⟨"EspAntiReplayModel", "taken", "(II)I"⟩, 6) := ⟨⟨by decide +kernel, by decide +kernel⟩, List.mem_of_getElem? (i := 146) (by decide +kernel), List.mem_of_getElem? (i := 187) (by decide +kernel), List.mem_of_getElem? (i := 188) (by decide +kernel)⟩
theorem lw_p9 : lw_okq (⟨"EspAntiReplayModel", "greatest", "(I)I"⟩, 6) := ⟨⟨by decide +kernel, by decide +kernel⟩, List.mem_of_getElem? (i := 146) (by decide +kernel), List.mem_of_getElem? (i := 191) (by decide +kernel), List.mem_of_getElem? (i := 192) (by decide +kernel)⟩
theorem lw_p10 : lw_okq (⟨"EspAntiReplayModel", "holds", "(II)Z"⟩, 6) := ⟨⟨by decide +kernel, by decide +kernel⟩, List.mem_of_getElem? (i := 146) (by decide +kernel), List.mem_of_getElem? (i := 195) (by decide +kernel), List.mem_of_getElem? (i := 196) (by decide +kernel)⟩
def lw_privs_1 : List (MethodName × Nat) := [(⟨"EspAntiReplay", "judge", "(IIZ)I"⟩, 10), (⟨"EspAntiReplay", "infer", "(II)I"⟩, 10), (⟨"EspAntiReplay", "isSeen", "(II)Z"⟩, 10), (⟨"EspAntiReplay", "topOf", "(I)I"⟩, 10), (⟨"EspAntiReplay", "accept", "(II)V"⟩, 10), (⟨"EspAntiReplay", "place", "(II)I"⟩, 10), (⟨"EspAntiReplayModel", "bad", "(I)Z"⟩, 6), (⟨"EspAntiReplayModel", "verdict", "(III)I"⟩, 6), (⟨"EspAntiReplayModel", "taken", "(II)I"⟩, 6), (⟨"EspAntiReplayModel", "greatest", "(I)I"⟩, 6), (⟨"EspAntiReplayModel", "holds", "(II)Z"⟩, 6)]
theorem lw_r1 : ∀ q ∈ lw_privs_1, lw_okq q := List.forall_mem_cons.mpr ⟨lw_p0, List.forall_mem_cons.mpr ⟨lw_p1, List.forall_mem_cons.mpr ⟨lw_p2, List.forall_mem_cons.mpr ⟨lw_p3, List.forall_mem_cons.mpr ⟨lw_p4, List.forall_mem_cons.mpr ⟨lw_p5, List.forall_mem_cons.mpr ⟨lw_p6, List.forall_mem_cons.mpr ⟨lw_p7, List.forall_mem_cons.mpr ⟨lw_p8, List.forall_mem_cons.mpr ⟨lw_p9, List.forall_mem_cons.mpr ⟨lw_p10, fun _ h => absurd h List.not_mem_nil⟩⟩⟩⟩⟩⟩⟩⟩⟩⟩⟩
def lw_privs : List (MethodName × Nat) := lw_privs_1
def lw_tbl : List Cond := k2_sels lw_privs ++ tables_1
theorem lw_privs_ok : ∀ q ∈ lw_privs, lw_okq q := lw_r1
-- ===== names: classes, fields, methods =====
def ea_tb : List Cond := lw_tbl.filter goodWord
def R_law : String := "EspAntiReplayLaw"
def R_X : String := "EspAntiReplay"
def R_M : String := "EspAntiReplayModel"
def F_X : u_T := fun k => match k with
  | 0 => ("EspAntiReplay", "topHigh", "[I", true)
  | 1 => ("EspAntiReplay", "topLow", "[I", true)
  | 2 => ("EspAntiReplay", "bits", "[J", true)
  | 3 => ("EspAntiReplay", "passed", "[I", true)
  | 4 => ("EspAntiReplay", "list", "[I", true)
  | 5 => ("EspAntiReplay", "soft", "[I", true)
  | 6 => ("EspAntiReplay", "hard", "[I", true)
  | 7 => ("EspAntiReplay", "verdicts", "[I", true)
  | 8 => ("EspAntiReplay", "window", "I", false)
  | _ => ("EspAntiReplay", "mask", "J", false)
def t_X : Nat → FieldType := fun k => match k with
  | 0 => .array .int
  | 1 => .array .int
  | 2 => .array .long
  | 3 => .array .int
  | 4 => .array .int
  | 5 => .array .int
  | 6 => .array .int
  | 7 => .array .int
  | 8 => .int
  | _ => .long
theorem n_X : ∀ a, a < 10 → ∀ b, b < 10 → a ≠ b → (F_X a).2.1 ≠ (F_X b).2.1 := by decide +kernel
theorem t_X_ok : ∀ k, k < 10 → parseFieldDescriptor (F_X k).2.2.1 = some (t_X k) := by decide +kernel
theorem i_X : ∀ w ∈ u_ws R_X F_X 10, w ∈ ea_tb := by decide +kernel
def F_M : u_T := fun k => match k with
  | 0 => ("EspAntiReplayModel", "window", "I", false)
  | 1 => ("EspAntiReplayModel", "number", "[I", false)
  | 2 => ("EspAntiReplayModel", "many", "[I", false)
  | 3 => ("EspAntiReplayModel", "soft", "[I", false)
  | 4 => ("EspAntiReplayModel", "hard", "[I", false)
  | _ => ("EspAntiReplayModel", "verdicts", "[I", false)
def t_M : Nat → FieldType := fun k => match k with
  | 0 => .int
  | 1 => .array .int
  | 2 => .array .int
  | 3 => .array .int
  | 4 => .array .int
  | _ => .array .int
theorem n_M : ∀ a, a < 6 → ∀ b, b < 6 → a ≠ b → (F_M a).2.1 ≠ (F_M b).2.1 := by decide +kernel
theorem t_M_ok : ∀ k, k < 6 → parseFieldDescriptor (F_M k).2.2.1 = some (t_M k) := by decide +kernel
theorem i_M : ∀ w ∈ u_ws R_M F_M 6, w ∈ ea_tb := by decide +kernel
abbrev ea_cl : List vw_C := [(R_X, F_X, 10), (R_M, F_M, 6)]
def y_X_init : MethodName := ⟨R_X, "<init>", "(I)V"⟩
abbrev b_X_init : ByteArray := prog_1_method_1_code
def y_X_window : MethodName := ⟨R_X, "window", "()I"⟩
abbrev b_X_window : ByteArray := prog_1_method_2_code
def y_X_receive : MethodName := ⟨R_X, "receive", "(III)I"⟩
abbrev b_X_receive : ByteArray := prog_1_method_3_code
def y_X_isLine : MethodName := ⟨R_X, "isLine", "(I)Z"⟩
abbrev b_X_isLine : ByteArray := prog_1_method_17_code
def y_X_isLow : MethodName := ⟨R_X, "isLow", "(I)Z"⟩
abbrev b_X_isLow : ByteArray := prog_1_method_18_code
def y_X_judge : MethodName := ⟨R_X, "judge", "(IIZ)I"⟩
abbrev b_X_judge : ByteArray := prog_1_method_22_code
def y_X_infer : MethodName := ⟨R_X, "infer", "(II)I"⟩
abbrev b_X_infer : ByteArray := prog_1_method_21_code
def y_X_isSeen : MethodName := ⟨R_X, "isSeen", "(II)Z"⟩
abbrev b_X_isSeen : ByteArray := prog_1_method_23_code
def y_X_topOf : MethodName := ⟨R_X, "topOf", "(I)I"⟩
abbrev b_X_topOf : ByteArray := prog_1_method_19_code
def y_X_accept : MethodName := ⟨R_X, "accept", "(II)V"⟩
abbrev b_X_accept : ByteArray := prog_1_method_24_code
def y_X_place : MethodName := ⟨R_X, "place", "(II)I"⟩
abbrev b_X_place : ByteArray := prog_1_method_25_code
def y_X_burst : MethodName := ⟨R_X, "burst", "(IIII)I"⟩
abbrev b_X_burst : ByteArray := prog_1_method_4_code
def y_X_rekey : MethodName := ⟨R_X, "rekey", "(I)I"⟩
abbrev b_X_rekey : ByteArray := prog_1_method_5_code
def y_X_limits : MethodName := ⟨R_X, "limits", "(III)I"⟩
abbrev b_X_limits : ByteArray := prog_1_method_6_code
def y_X_top : MethodName := ⟨R_X, "top", "(I)I"⟩
abbrev b_X_top : ByteArray := prog_1_method_7_code
def y_X_accepted : MethodName := ⟨R_X, "accepted", "(I)I"⟩
abbrev b_X_accepted : ByteArray := prog_1_method_8_code
def y_X_dead : MethodName := ⟨R_X, "dead", "(I)I"⟩
abbrev b_X_dead : ByteArray := prog_1_method_9_code
def y_X_aging : MethodName := ⟨R_X, "aging", "(I)I"⟩
abbrev b_X_aging : ByteArray := prog_1_method_10_code
def y_X_count : MethodName := ⟨R_X, "count", "(II)I"⟩
abbrev b_X_count : ByteArray := prog_1_method_11_code
def y_X_numberFor : MethodName := ⟨R_X, "numberFor", "(II)I"⟩
abbrev b_X_numberFor : ByteArray := prog_1_method_12_code
def y_X_has : MethodName := ⟨R_X, "has", "(II)I"⟩
abbrev b_X_has : ByteArray := prog_1_method_13_code
def y_X_inWindow : MethodName := ⟨R_X, "inWindow", "(I)I"⟩
abbrev b_X_inWindow : ByteArray := prog_1_method_14_code
def y_X_ones : MethodName := ⟨R_X, "ones", "(J)I"⟩
abbrev b_X_ones : ByteArray := prog_1_method_20_code
def y_X_lost : MethodName := ⟨R_X, "lost", "(I)I"⟩
abbrev b_X_lost : ByteArray := prog_1_method_15_code
def y_X_gap : MethodName := ⟨R_X, "gap", "(I)I"⟩
abbrev b_X_gap : ByteArray := prog_1_method_16_code
def y_L_cell : MethodName := ⟨R_law, "cell", "([II)I"⟩
abbrev b_L_cell : ByteArray := method_2_code
def y_M_init : MethodName := ⟨R_M, "<init>", "(I)V"⟩
abbrev b_M_init : ByteArray := prog_3_method_1_code
def y_M_window : MethodName := ⟨R_M, "window", "()I"⟩
abbrev b_M_window : ByteArray := prog_3_method_2_code
def y_M_receive : MethodName := ⟨R_M, "receive", "(III)I"⟩
abbrev b_M_receive : ByteArray := prog_3_method_8_code
def y_M_bad : MethodName := ⟨R_M, "bad", "(I)Z"⟩
abbrev b_M_bad : ByteArray := prog_3_method_3_code
def y_M_verdict : MethodName := ⟨R_M, "verdict", "(III)I"⟩
abbrev b_M_verdict : ByteArray := prog_3_method_7_code
def y_M_taken : MethodName := ⟨R_M, "taken", "(II)I"⟩
abbrev b_M_taken : ByteArray := prog_3_method_6_code
def y_M_greatest : MethodName := ⟨R_M, "greatest", "(I)I"⟩
abbrev b_M_greatest : ByteArray := prog_3_method_4_code
def y_M_holds : MethodName := ⟨R_M, "holds", "(II)Z"⟩
abbrev b_M_holds : ByteArray := prog_3_method_5_code
def y_M_burst : MethodName := ⟨R_M, "burst", "(IIII)I"⟩
abbrev b_M_burst : ByteArray := prog_3_method_9_code
def y_M_rekey : MethodName := ⟨R_M, "rekey", "(I)I"⟩
abbrev b_M_rekey : ByteArray := prog_3_method_10_code
def y_M_limits : MethodName := ⟨R_M, "limits", "(III)I"⟩
abbrev b_M_limits : ByteArray := prog_3_method_11_code
def y_M_dead : MethodName := ⟨R_M, "dead", "(I)I"⟩
abbrev b_M_dead : ByteArray := prog_3_method_14_code
def y_M_top : MethodName := ⟨R_M, "top", "(I)I"⟩
abbrev b_M_top : ByteArray := prog_3_method_12_code
def y_M_accepted : MethodName := ⟨R_M, "accepted", "(I)I"⟩
abbrev b_M_accepted : ByteArray := prog_3_method_13_code
def y_M_aging : MethodName := ⟨R_M, "aging", "(I)I"⟩
abbrev b_M_aging : ByteArray := prog_3_method_15_code
def y_M_count : MethodName := ⟨R_M, "count", "(II)I"⟩
abbrev b_M_count : ByteArray := prog_3_method_16_code
def y_M_numberFor : MethodName := ⟨R_M, "numberFor", "(II)I"⟩
abbrev b_M_numberFor : ByteArray := prog_3_method_17_code
def y_M_has : MethodName := ⟨R_M, "has", "(II)I"⟩
abbrev b_M_has : ByteArray := prog_3_method_18_code
def y_M_inWindow : MethodName := ⟨R_M, "inWindow", "(I)I"⟩
abbrev b_M_inWindow : ByteArray := prog_3_method_19_code
def y_M_lost : MethodName := ⟨R_M, "lost", "(I)I"⟩
abbrev b_M_lost : ByteArray := prog_3_method_20_code
def y_M_gap : MethodName := ⟨R_M, "gap", "(I)I"⟩
abbrev b_M_gap : ByteArray := prog_3_method_21_code
def y_L_law : MethodName := ⟨R_law, "law", "([I)Z"⟩
abbrev b_L_law : ByteArray := code
theorem ks_X_judge : Cond.selects R_X y_X_judge y_X_judge ∈ ea_tb := List.mem_filter.mpr ⟨List.mem_of_getElem? (i := 0) (by decide +kernel), rfl⟩
theorem ks_X_infer : Cond.selects R_X y_X_infer y_X_infer ∈ ea_tb := List.mem_filter.mpr ⟨List.mem_of_getElem? (i := 1) (by decide +kernel), rfl⟩
theorem ks_X_isSeen : Cond.selects R_X y_X_isSeen y_X_isSeen ∈ ea_tb := List.mem_filter.mpr ⟨List.mem_of_getElem? (i := 2) (by decide +kernel), rfl⟩
theorem ks_X_topOf : Cond.selects R_X y_X_topOf y_X_topOf ∈ ea_tb := List.mem_filter.mpr ⟨List.mem_of_getElem? (i := 3) (by decide +kernel), rfl⟩
theorem ks_X_accept : Cond.selects R_X y_X_accept y_X_accept ∈ ea_tb := List.mem_filter.mpr ⟨List.mem_of_getElem? (i := 4) (by decide +kernel), rfl⟩
theorem ks_X_place : Cond.selects R_X y_X_place y_X_place ∈ ea_tb := List.mem_filter.mpr ⟨List.mem_of_getElem? (i := 5) (by decide +kernel), rfl⟩
theorem ks_M_bad : Cond.selects R_M y_M_bad y_M_bad ∈ ea_tb := List.mem_filter.mpr ⟨List.mem_of_getElem? (i := 6) (by decide +kernel), rfl⟩
theorem ks_M_verdict : Cond.selects R_M y_M_verdict y_M_verdict ∈ ea_tb := List.mem_filter.mpr ⟨List.mem_of_getElem? (i := 7) (by decide +kernel), rfl⟩
theorem ks_M_taken : Cond.selects R_M y_M_taken y_M_taken ∈ ea_tb := List.mem_filter.mpr ⟨List.mem_of_getElem? (i := 8) (by decide +kernel), rfl⟩
theorem ks_M_greatest : Cond.selects R_M y_M_greatest y_M_greatest ∈ ea_tb := List.mem_filter.mpr ⟨List.mem_of_getElem? (i := 9) (by decide +kernel), rfl⟩
theorem ks_M_holds : Cond.selects R_M y_M_holds y_M_holds ∈ ea_tb := List.mem_filter.mpr ⟨List.mem_of_getElem? (i := 10) (by decide +kernel), rfl⟩
theorem ki_L : Cond.initialized R_law ∈ ea_tb := List.mem_filter.mpr ⟨List.mem_of_getElem? (i := 11) (by decide +kernel), rfl⟩
theorem ki_X : Cond.initialized R_X ∈ ea_tb := List.mem_filter.mpr ⟨List.mem_of_getElem? (i := 12) (by decide +kernel), rfl⟩
theorem ki_M : Cond.initialized R_M ∈ ea_tb := List.mem_filter.mpr ⟨List.mem_of_getElem? (i := 13) (by decide +kernel), rfl⟩
theorem kx_X : Cond.classLink R_law 7 R_X ∈ ea_tb := List.mem_filter.mpr ⟨List.mem_of_getElem? (i := 14) (by decide +kernel), rfl⟩
theorem kz_X : Cond.instantiable R_X 10 ∈ ea_tb := List.mem_filter.mpr ⟨List.mem_of_getElem? (i := 15) (by decide +kernel), rfl⟩
theorem kl_L_15 : Cond.methodLink R_law 15 y_X_init ∈ ea_tb := List.mem_filter.mpr ⟨List.mem_of_getElem? (i := 16) (by decide +kernel), rfl⟩
theorem kn_X_init : Cond.instanceMethod y_X_init ∈ ea_tb := List.mem_filter.mpr ⟨List.mem_of_getElem? (i := 17) (by decide +kernel), rfl⟩
theorem kc_X_init : Cond.code y_X_init b_X_init 3 none ∈ ea_tb := List.mem_filter.mpr ⟨List.mem_of_getElem? (i := 18) (by decide +kernel), rfl⟩
theorem kl_X_1 : Cond.methodLink R_X 1 objectInit ∈ ea_tb := List.mem_filter.mpr ⟨List.mem_of_getElem? (i := 19) (by decide +kernel), rfl⟩
theorem kn_obj : Cond.instanceMethod objectInit ∈ ea_tb := List.mem_filter.mpr ⟨List.mem_of_getElem? (i := 20) (by decide +kernel), rfl⟩
theorem kc_obj : Cond.code objectInit ⟨#[0xb1]⟩ 1 none ∈ ea_tb := List.mem_filter.mpr ⟨List.mem_of_getElem? (i := 21) (by decide +kernel), rfl⟩
theorem kk_39 : Cond.constantLong R_X 39 (-1) ∈ ea_tb := List.mem_filter.mpr ⟨List.mem_of_getElem? (i := 22) (by decide +kernel), rfl⟩
theorem kf_X_topHigh : Cond.fieldLink R_X 7 R_X "topHigh" "[I" ∈ ea_tb := List.mem_filter.mpr ⟨List.mem_of_getElem? (i := 23) (by decide +kernel), rfl⟩
theorem kf_X_topLow : Cond.fieldLink R_X 13 R_X "topLow" "[I" ∈ ea_tb := List.mem_filter.mpr ⟨List.mem_of_getElem? (i := 24) (by decide +kernel), rfl⟩
theorem kf_X_bits : Cond.fieldLink R_X 16 R_X "bits" "[J" ∈ ea_tb := List.mem_filter.mpr ⟨List.mem_of_getElem? (i := 25) (by decide +kernel), rfl⟩
theorem kf_X_passed : Cond.fieldLink R_X 20 R_X "passed" "[I" ∈ ea_tb := List.mem_filter.mpr ⟨List.mem_of_getElem? (i := 26) (by decide +kernel), rfl⟩
theorem kf_X_list : Cond.fieldLink R_X 23 R_X "list" "[I" ∈ ea_tb := List.mem_filter.mpr ⟨List.mem_of_getElem? (i := 27) (by decide +kernel), rfl⟩
theorem kf_X_soft : Cond.fieldLink R_X 26 R_X "soft" "[I" ∈ ea_tb := List.mem_filter.mpr ⟨List.mem_of_getElem? (i := 28) (by decide +kernel), rfl⟩
theorem kf_X_hard : Cond.fieldLink R_X 29 R_X "hard" "[I" ∈ ea_tb := List.mem_filter.mpr ⟨List.mem_of_getElem? (i := 29) (by decide +kernel), rfl⟩
theorem kf_X_verdicts : Cond.fieldLink R_X 32 R_X "verdicts" "[I" ∈ ea_tb := List.mem_filter.mpr ⟨List.mem_of_getElem? (i := 30) (by decide +kernel), rfl⟩
theorem kf_X_window : Cond.fieldLink R_X 35 R_X "window" "I" ∈ ea_tb := List.mem_filter.mpr ⟨List.mem_of_getElem? (i := 31) (by decide +kernel), rfl⟩
theorem kf_X_mask : Cond.fieldLink R_X 41 R_X "mask" "J" ∈ ea_tb := List.mem_filter.mpr ⟨List.mem_of_getElem? (i := 32) (by decide +kernel), rfl⟩
theorem ka_int : Cond.arrayClass .int ∈ ea_tb := List.mem_filter.mpr ⟨List.mem_of_getElem? (i := 54) (by decide +kernel), rfl⟩
theorem ka_long : Cond.arrayClass .long ∈ ea_tb := List.mem_filter.mpr ⟨List.mem_of_getElem? (i := 55) (by decide +kernel), rfl⟩
theorem kl_L_21 : Cond.methodLink R_law 21 y_X_window ∈ ea_tb := List.mem_filter.mpr ⟨List.mem_of_getElem? (i := 56) (by decide +kernel), rfl⟩
theorem kn_X_window : Cond.instanceMethod y_X_window ∈ ea_tb := List.mem_filter.mpr ⟨List.mem_of_getElem? (i := 57) (by decide +kernel), rfl⟩
theorem ks_X_window : Cond.selects R_X y_X_window y_X_window ∈ ea_tb := List.mem_filter.mpr ⟨List.mem_of_getElem? (i := 58) (by decide +kernel), rfl⟩
theorem kc_X_window : Cond.code y_X_window b_X_window 1 (some .int) ∈ ea_tb := List.mem_filter.mpr ⟨List.mem_of_getElem? (i := 59) (by decide +kernel), rfl⟩
theorem kl_L_26 : Cond.methodLink R_law 26 y_X_receive ∈ ea_tb := List.mem_filter.mpr ⟨List.mem_of_getElem? (i := 60) (by decide +kernel), rfl⟩
theorem kn_X_receive : Cond.instanceMethod y_X_receive ∈ ea_tb := List.mem_filter.mpr ⟨List.mem_of_getElem? (i := 61) (by decide +kernel), rfl⟩
theorem ks_X_receive : Cond.selects R_X y_X_receive y_X_receive ∈ ea_tb := List.mem_filter.mpr ⟨List.mem_of_getElem? (i := 62) (by decide +kernel), rfl⟩
theorem kc_X_receive : Cond.code y_X_receive b_X_receive 4 (some .int) ∈ ea_tb := List.mem_filter.mpr ⟨List.mem_of_getElem? (i := 63) (by decide +kernel), rfl⟩
theorem kl_X_45 : Cond.methodLink R_X 45 y_X_isLine ∈ ea_tb := List.mem_filter.mpr ⟨List.mem_of_getElem? (i := 64) (by decide +kernel), rfl⟩
theorem kt_X_isLine : Cond.static y_X_isLine ∈ ea_tb := List.mem_filter.mpr ⟨List.mem_of_getElem? (i := 65) (by decide +kernel), rfl⟩
theorem kc_X_isLine : Cond.code y_X_isLine b_X_isLine 1 (some .boolean) ∈ ea_tb := List.mem_filter.mpr ⟨List.mem_of_getElem? (i := 66) (by decide +kernel), rfl⟩
theorem kl_X_49 : Cond.methodLink R_X 49 y_X_isLow ∈ ea_tb := List.mem_filter.mpr ⟨List.mem_of_getElem? (i := 67) (by decide +kernel), rfl⟩
theorem kt_X_isLow : Cond.static y_X_isLow ∈ ea_tb := List.mem_filter.mpr ⟨List.mem_of_getElem? (i := 68) (by decide +kernel), rfl⟩
theorem kc_X_isLow : Cond.code y_X_isLow b_X_isLow 1 (some .boolean) ∈ ea_tb := List.mem_filter.mpr ⟨List.mem_of_getElem? (i := 69) (by decide +kernel), rfl⟩
theorem kl_X_52 : Cond.methodLink R_X 52 y_X_judge ∈ ea_tb := List.mem_filter.mpr ⟨List.mem_of_getElem? (i := 70) (by decide +kernel), rfl⟩
theorem kn_X_judge : Cond.instanceMethod y_X_judge ∈ ea_tb := List.mem_filter.mpr ⟨List.mem_of_getElem? (i := 72) (by decide +kernel), rfl⟩
theorem kc_X_judge : Cond.code y_X_judge b_X_judge 6 (some .int) ∈ ea_tb := List.mem_filter.mpr ⟨List.mem_of_getElem? (i := 73) (by decide +kernel), rfl⟩
theorem kl_X_60 : Cond.methodLink R_X 60 y_X_infer ∈ ea_tb := List.mem_filter.mpr ⟨List.mem_of_getElem? (i := 74) (by decide +kernel), rfl⟩
theorem kn_X_infer : Cond.instanceMethod y_X_infer ∈ ea_tb := List.mem_filter.mpr ⟨List.mem_of_getElem? (i := 76) (by decide +kernel), rfl⟩
theorem kc_X_infer : Cond.code y_X_infer b_X_infer 5 (some .int) ∈ ea_tb := List.mem_filter.mpr ⟨List.mem_of_getElem? (i := 77) (by decide +kernel), rfl⟩
theorem kl_X_79 : Cond.methodLink R_X 79 y_X_isSeen ∈ ea_tb := List.mem_filter.mpr ⟨List.mem_of_getElem? (i := 78) (by decide +kernel), rfl⟩
theorem kn_X_isSeen : Cond.instanceMethod y_X_isSeen ∈ ea_tb := List.mem_filter.mpr ⟨List.mem_of_getElem? (i := 80) (by decide +kernel), rfl⟩
theorem kc_X_isSeen : Cond.code y_X_isSeen b_X_isSeen 4 (some .boolean) ∈ ea_tb := List.mem_filter.mpr ⟨List.mem_of_getElem? (i := 81) (by decide +kernel), rfl⟩
theorem kl_X_56 : Cond.methodLink R_X 56 y_X_topOf ∈ ea_tb := List.mem_filter.mpr ⟨List.mem_of_getElem? (i := 82) (by decide +kernel), rfl⟩
theorem kn_X_topOf : Cond.instanceMethod y_X_topOf ∈ ea_tb := List.mem_filter.mpr ⟨List.mem_of_getElem? (i := 84) (by decide +kernel), rfl⟩
theorem kc_X_topOf : Cond.code y_X_topOf b_X_topOf 2 (some .int) ∈ ea_tb := List.mem_filter.mpr ⟨List.mem_of_getElem? (i := 85) (by decide +kernel), rfl⟩
theorem kl_X_83 : Cond.methodLink R_X 83 y_X_accept ∈ ea_tb := List.mem_filter.mpr ⟨List.mem_of_getElem? (i := 86) (by decide +kernel), rfl⟩
theorem kn_X_accept : Cond.instanceMethod y_X_accept ∈ ea_tb := List.mem_filter.mpr ⟨List.mem_of_getElem? (i := 88) (by decide +kernel), rfl⟩
theorem kc_X_accept : Cond.code y_X_accept b_X_accept 6 none ∈ ea_tb := List.mem_filter.mpr ⟨List.mem_of_getElem? (i := 89) (by decide +kernel), rfl⟩
theorem kl_X_64 : Cond.methodLink R_X 64 y_X_place ∈ ea_tb := List.mem_filter.mpr ⟨List.mem_of_getElem? (i := 90) (by decide +kernel), rfl⟩
theorem kn_X_place : Cond.instanceMethod y_X_place ∈ ea_tb := List.mem_filter.mpr ⟨List.mem_of_getElem? (i := 92) (by decide +kernel), rfl⟩
theorem kc_X_place : Cond.code y_X_place b_X_place 7 (some .int) ∈ ea_tb := List.mem_filter.mpr ⟨List.mem_of_getElem? (i := 93) (by decide +kernel), rfl⟩
theorem kl_L_31 : Cond.methodLink R_law 31 y_X_burst ∈ ea_tb := List.mem_filter.mpr ⟨List.mem_of_getElem? (i := 94) (by decide +kernel), rfl⟩
theorem kn_X_burst : Cond.instanceMethod y_X_burst ∈ ea_tb := List.mem_filter.mpr ⟨List.mem_of_getElem? (i := 95) (by decide +kernel), rfl⟩
theorem ks_X_burst : Cond.selects R_X y_X_burst y_X_burst ∈ ea_tb := List.mem_filter.mpr ⟨List.mem_of_getElem? (i := 96) (by decide +kernel), rfl⟩
theorem kc_X_burst : Cond.code y_X_burst b_X_burst 8 (some .int) ∈ ea_tb := List.mem_filter.mpr ⟨List.mem_of_getElem? (i := 97) (by decide +kernel), rfl⟩
theorem kl_L_36 : Cond.methodLink R_law 36 y_X_rekey ∈ ea_tb := List.mem_filter.mpr ⟨List.mem_of_getElem? (i := 98) (by decide +kernel), rfl⟩
theorem kn_X_rekey : Cond.instanceMethod y_X_rekey ∈ ea_tb := List.mem_filter.mpr ⟨List.mem_of_getElem? (i := 99) (by decide +kernel), rfl⟩
theorem ks_X_rekey : Cond.selects R_X y_X_rekey y_X_rekey ∈ ea_tb := List.mem_filter.mpr ⟨List.mem_of_getElem? (i := 100) (by decide +kernel), rfl⟩
theorem kc_X_rekey : Cond.code y_X_rekey b_X_rekey 3 (some .int) ∈ ea_tb := List.mem_filter.mpr ⟨List.mem_of_getElem? (i := 101) (by decide +kernel), rfl⟩
theorem kl_L_41 : Cond.methodLink R_law 41 y_X_limits ∈ ea_tb := List.mem_filter.mpr ⟨List.mem_of_getElem? (i := 102) (by decide +kernel), rfl⟩
theorem kn_X_limits : Cond.instanceMethod y_X_limits ∈ ea_tb := List.mem_filter.mpr ⟨List.mem_of_getElem? (i := 103) (by decide +kernel), rfl⟩
theorem ks_X_limits : Cond.selects R_X y_X_limits y_X_limits ∈ ea_tb := List.mem_filter.mpr ⟨List.mem_of_getElem? (i := 104) (by decide +kernel), rfl⟩
theorem kc_X_limits : Cond.code y_X_limits b_X_limits 4 (some .int) ∈ ea_tb := List.mem_filter.mpr ⟨List.mem_of_getElem? (i := 105) (by decide +kernel), rfl⟩
theorem kl_L_45 : Cond.methodLink R_law 45 y_X_top ∈ ea_tb := List.mem_filter.mpr ⟨List.mem_of_getElem? (i := 106) (by decide +kernel), rfl⟩
theorem kn_X_top : Cond.instanceMethod y_X_top ∈ ea_tb := List.mem_filter.mpr ⟨List.mem_of_getElem? (i := 107) (by decide +kernel), rfl⟩
theorem ks_X_top : Cond.selects R_X y_X_top y_X_top ∈ ea_tb := List.mem_filter.mpr ⟨List.mem_of_getElem? (i := 108) (by decide +kernel), rfl⟩
theorem kc_X_top : Cond.code y_X_top b_X_top 2 (some .int) ∈ ea_tb := List.mem_filter.mpr ⟨List.mem_of_getElem? (i := 109) (by decide +kernel), rfl⟩
theorem kl_L_49 : Cond.methodLink R_law 49 y_X_accepted ∈ ea_tb := List.mem_filter.mpr ⟨List.mem_of_getElem? (i := 110) (by decide +kernel), rfl⟩
theorem kn_X_accepted : Cond.instanceMethod y_X_accepted ∈ ea_tb := List.mem_filter.mpr ⟨List.mem_of_getElem? (i := 111) (by decide +kernel), rfl⟩
theorem ks_X_accepted : Cond.selects R_X y_X_accepted y_X_accepted ∈ ea_tb := List.mem_filter.mpr ⟨List.mem_of_getElem? (i := 112) (by decide +kernel), rfl⟩
theorem kc_X_accepted : Cond.code y_X_accepted b_X_accepted 2 (some .int) ∈ ea_tb := List.mem_filter.mpr ⟨List.mem_of_getElem? (i := 113) (by decide +kernel), rfl⟩
theorem kl_L_53 : Cond.methodLink R_law 53 y_X_dead ∈ ea_tb := List.mem_filter.mpr ⟨List.mem_of_getElem? (i := 114) (by decide +kernel), rfl⟩
theorem kn_X_dead : Cond.instanceMethod y_X_dead ∈ ea_tb := List.mem_filter.mpr ⟨List.mem_of_getElem? (i := 115) (by decide +kernel), rfl⟩
theorem ks_X_dead : Cond.selects R_X y_X_dead y_X_dead ∈ ea_tb := List.mem_filter.mpr ⟨List.mem_of_getElem? (i := 116) (by decide +kernel), rfl⟩
theorem kc_X_dead : Cond.code y_X_dead b_X_dead 2 (some .int) ∈ ea_tb := List.mem_filter.mpr ⟨List.mem_of_getElem? (i := 117) (by decide +kernel), rfl⟩
theorem kl_L_57 : Cond.methodLink R_law 57 y_X_aging ∈ ea_tb := List.mem_filter.mpr ⟨List.mem_of_getElem? (i := 118) (by decide +kernel), rfl⟩
theorem kn_X_aging : Cond.instanceMethod y_X_aging ∈ ea_tb := List.mem_filter.mpr ⟨List.mem_of_getElem? (i := 119) (by decide +kernel), rfl⟩
theorem ks_X_aging : Cond.selects R_X y_X_aging y_X_aging ∈ ea_tb := List.mem_filter.mpr ⟨List.mem_of_getElem? (i := 120) (by decide +kernel), rfl⟩
theorem kc_X_aging : Cond.code y_X_aging b_X_aging 2 (some .int) ∈ ea_tb := List.mem_filter.mpr ⟨List.mem_of_getElem? (i := 121) (by decide +kernel), rfl⟩
theorem kl_L_61 : Cond.methodLink R_law 61 y_X_count ∈ ea_tb := List.mem_filter.mpr ⟨List.mem_of_getElem? (i := 122) (by decide +kernel), rfl⟩
theorem kn_X_count : Cond.instanceMethod y_X_count ∈ ea_tb := List.mem_filter.mpr ⟨List.mem_of_getElem? (i := 123) (by decide +kernel), rfl⟩
theorem ks_X_count : Cond.selects R_X y_X_count y_X_count ∈ ea_tb := List.mem_filter.mpr ⟨List.mem_of_getElem? (i := 124) (by decide +kernel), rfl⟩
theorem kc_X_count : Cond.code y_X_count b_X_count 3 (some .int) ∈ ea_tb := List.mem_filter.mpr ⟨List.mem_of_getElem? (i := 125) (by decide +kernel), rfl⟩
theorem kl_L_66 : Cond.methodLink R_law 66 y_X_numberFor ∈ ea_tb := List.mem_filter.mpr ⟨List.mem_of_getElem? (i := 126) (by decide +kernel), rfl⟩
theorem kn_X_numberFor : Cond.instanceMethod y_X_numberFor ∈ ea_tb := List.mem_filter.mpr ⟨List.mem_of_getElem? (i := 127) (by decide +kernel), rfl⟩
theorem ks_X_numberFor : Cond.selects R_X y_X_numberFor y_X_numberFor ∈ ea_tb := List.mem_filter.mpr ⟨List.mem_of_getElem? (i := 128) (by decide +kernel), rfl⟩
theorem kc_X_numberFor : Cond.code y_X_numberFor b_X_numberFor 3 (some .int) ∈ ea_tb := List.mem_filter.mpr ⟨List.mem_of_getElem? (i := 129) (by decide +kernel), rfl⟩
theorem kl_L_70 : Cond.methodLink R_law 70 y_X_has ∈ ea_tb := List.mem_filter.mpr ⟨List.mem_of_getElem? (i := 130) (by decide +kernel), rfl⟩
theorem kn_X_has : Cond.instanceMethod y_X_has ∈ ea_tb := List.mem_filter.mpr ⟨List.mem_of_getElem? (i := 131) (by decide +kernel), rfl⟩
theorem ks_X_has : Cond.selects R_X y_X_has y_X_has ∈ ea_tb := List.mem_filter.mpr ⟨List.mem_of_getElem? (i := 132) (by decide +kernel), rfl⟩
theorem kc_X_has : Cond.code y_X_has b_X_has 5 (some .int) ∈ ea_tb := List.mem_filter.mpr ⟨List.mem_of_getElem? (i := 133) (by decide +kernel), rfl⟩
theorem kl_L_74 : Cond.methodLink R_law 74 y_X_inWindow ∈ ea_tb := List.mem_filter.mpr ⟨List.mem_of_getElem? (i := 134) (by decide +kernel), rfl⟩
theorem kn_X_inWindow : Cond.instanceMethod y_X_inWindow ∈ ea_tb := List.mem_filter.mpr ⟨List.mem_of_getElem? (i := 135) (by decide +kernel), rfl⟩
theorem ks_X_inWindow : Cond.selects R_X y_X_inWindow y_X_inWindow ∈ ea_tb := List.mem_filter.mpr ⟨List.mem_of_getElem? (i := 136) (by decide +kernel), rfl⟩
theorem kc_X_inWindow : Cond.code y_X_inWindow b_X_inWindow 2 (some .int) ∈ ea_tb := List.mem_filter.mpr ⟨List.mem_of_getElem? (i := 137) (by decide +kernel), rfl⟩
theorem kl_X_67 : Cond.methodLink R_X 67 y_X_ones ∈ ea_tb := List.mem_filter.mpr ⟨List.mem_of_getElem? (i := 138) (by decide +kernel), rfl⟩
theorem kt_X_ones : Cond.static y_X_ones ∈ ea_tb := List.mem_filter.mpr ⟨List.mem_of_getElem? (i := 139) (by decide +kernel), rfl⟩
theorem kc_X_ones : Cond.code y_X_ones b_X_ones 4 (some .int) ∈ ea_tb := List.mem_filter.mpr ⟨List.mem_of_getElem? (i := 140) (by decide +kernel), rfl⟩
theorem kk_71 : Cond.constantLong R_X 71 (6148914691236517205) ∈ ea_tb := List.mem_filter.mpr ⟨List.mem_of_getElem? (i := 141) (by decide +kernel), rfl⟩
theorem kk_73 : Cond.constantLong R_X 73 (3689348814741910323) ∈ ea_tb := List.mem_filter.mpr ⟨List.mem_of_getElem? (i := 142) (by decide +kernel), rfl⟩
theorem kk_75 : Cond.constantLong R_X 75 (1085102592571150095) ∈ ea_tb := List.mem_filter.mpr ⟨List.mem_of_getElem? (i := 143) (by decide +kernel), rfl⟩
theorem kk_77 : Cond.constantLong R_X 77 (72340172838076673) ∈ ea_tb := List.mem_filter.mpr ⟨List.mem_of_getElem? (i := 144) (by decide +kernel), rfl⟩
theorem kl_L_78 : Cond.methodLink R_law 78 y_X_lost ∈ ea_tb := List.mem_filter.mpr ⟨List.mem_of_getElem? (i := 145) (by decide +kernel), rfl⟩
theorem kn_X_lost : Cond.instanceMethod y_X_lost ∈ ea_tb := List.mem_filter.mpr ⟨List.mem_of_getElem? (i := 146) (by decide +kernel), rfl⟩
theorem ks_X_lost : Cond.selects R_X y_X_lost y_X_lost ∈ ea_tb := List.mem_filter.mpr ⟨List.mem_of_getElem? (i := 147) (by decide +kernel), rfl⟩
theorem kc_X_lost : Cond.code y_X_lost b_X_lost 3 (some .int) ∈ ea_tb := List.mem_filter.mpr ⟨List.mem_of_getElem? (i := 148) (by decide +kernel), rfl⟩
theorem kl_L_82 : Cond.methodLink R_law 82 y_X_gap ∈ ea_tb := List.mem_filter.mpr ⟨List.mem_of_getElem? (i := 149) (by decide +kernel), rfl⟩
theorem kn_X_gap : Cond.instanceMethod y_X_gap ∈ ea_tb := List.mem_filter.mpr ⟨List.mem_of_getElem? (i := 150) (by decide +kernel), rfl⟩
theorem ks_X_gap : Cond.selects R_X y_X_gap y_X_gap ∈ ea_tb := List.mem_filter.mpr ⟨List.mem_of_getElem? (i := 151) (by decide +kernel), rfl⟩
theorem kc_X_gap : Cond.code y_X_gap b_X_gap 4 (some .int) ∈ ea_tb := List.mem_filter.mpr ⟨List.mem_of_getElem? (i := 152) (by decide +kernel), rfl⟩
theorem kl_L_9 : Cond.methodLink R_law 9 y_L_cell ∈ ea_tb := List.mem_filter.mpr ⟨List.mem_of_getElem? (i := 153) (by decide +kernel), rfl⟩
theorem kt_L_cell : Cond.static y_L_cell ∈ ea_tb := List.mem_filter.mpr ⟨List.mem_of_getElem? (i := 154) (by decide +kernel), rfl⟩
theorem kc_L_cell : Cond.code y_L_cell b_L_cell 2 (some .int) ∈ ea_tb := List.mem_filter.mpr ⟨List.mem_of_getElem? (i := 155) (by decide +kernel), rfl⟩
theorem kx_M : Cond.classLink R_law 18 R_M ∈ ea_tb := List.mem_filter.mpr ⟨List.mem_of_getElem? (i := 156) (by decide +kernel), rfl⟩
theorem kz_M : Cond.instantiable R_M 6 ∈ ea_tb := List.mem_filter.mpr ⟨List.mem_of_getElem? (i := 157) (by decide +kernel), rfl⟩
theorem kl_L_20 : Cond.methodLink R_law 20 y_M_init ∈ ea_tb := List.mem_filter.mpr ⟨List.mem_of_getElem? (i := 158) (by decide +kernel), rfl⟩
theorem kn_M_init : Cond.instanceMethod y_M_init ∈ ea_tb := List.mem_filter.mpr ⟨List.mem_of_getElem? (i := 159) (by decide +kernel), rfl⟩
theorem kc_M_init : Cond.code y_M_init b_M_init 3 none ∈ ea_tb := List.mem_filter.mpr ⟨List.mem_of_getElem? (i := 160) (by decide +kernel), rfl⟩
theorem kl_M_1 : Cond.methodLink R_M 1 objectInit ∈ ea_tb := List.mem_filter.mpr ⟨List.mem_of_getElem? (i := 161) (by decide +kernel), rfl⟩
theorem kf_M_window : Cond.fieldLink R_M 25 R_M "window" "I" ∈ ea_tb := List.mem_filter.mpr ⟨List.mem_of_getElem? (i := 162) (by decide +kernel), rfl⟩
theorem kf_M_number : Cond.fieldLink R_M 7 R_M "number" "[I" ∈ ea_tb := List.mem_filter.mpr ⟨List.mem_of_getElem? (i := 163) (by decide +kernel), rfl⟩
theorem kf_M_many : Cond.fieldLink R_M 13 R_M "many" "[I" ∈ ea_tb := List.mem_filter.mpr ⟨List.mem_of_getElem? (i := 164) (by decide +kernel), rfl⟩
theorem kf_M_soft : Cond.fieldLink R_M 16 R_M "soft" "[I" ∈ ea_tb := List.mem_filter.mpr ⟨List.mem_of_getElem? (i := 165) (by decide +kernel), rfl⟩
theorem kf_M_hard : Cond.fieldLink R_M 19 R_M "hard" "[I" ∈ ea_tb := List.mem_filter.mpr ⟨List.mem_of_getElem? (i := 166) (by decide +kernel), rfl⟩
theorem kf_M_verdicts : Cond.fieldLink R_M 22 R_M "verdicts" "[I" ∈ ea_tb := List.mem_filter.mpr ⟨List.mem_of_getElem? (i := 167) (by decide +kernel), rfl⟩
theorem kl_L_25 : Cond.methodLink R_law 25 y_M_window ∈ ea_tb := List.mem_filter.mpr ⟨List.mem_of_getElem? (i := 181) (by decide +kernel), rfl⟩
theorem kn_M_window : Cond.instanceMethod y_M_window ∈ ea_tb := List.mem_filter.mpr ⟨List.mem_of_getElem? (i := 182) (by decide +kernel), rfl⟩
theorem ks_M_window : Cond.selects R_M y_M_window y_M_window ∈ ea_tb := List.mem_filter.mpr ⟨List.mem_of_getElem? (i := 183) (by decide +kernel), rfl⟩
theorem kc_M_window : Cond.code y_M_window b_M_window 1 (some .int) ∈ ea_tb := List.mem_filter.mpr ⟨List.mem_of_getElem? (i := 184) (by decide +kernel), rfl⟩
theorem kl_L_30 : Cond.methodLink R_law 30 y_M_receive ∈ ea_tb := List.mem_filter.mpr ⟨List.mem_of_getElem? (i := 185) (by decide +kernel), rfl⟩
theorem kn_M_receive : Cond.instanceMethod y_M_receive ∈ ea_tb := List.mem_filter.mpr ⟨List.mem_of_getElem? (i := 186) (by decide +kernel), rfl⟩
theorem ks_M_receive : Cond.selects R_M y_M_receive y_M_receive ∈ ea_tb := List.mem_filter.mpr ⟨List.mem_of_getElem? (i := 187) (by decide +kernel), rfl⟩
theorem kc_M_receive : Cond.code y_M_receive b_M_receive 5 (some .int) ∈ ea_tb := List.mem_filter.mpr ⟨List.mem_of_getElem? (i := 188) (by decide +kernel), rfl⟩
theorem kl_M_41 : Cond.methodLink R_M 41 y_M_bad ∈ ea_tb := List.mem_filter.mpr ⟨List.mem_of_getElem? (i := 189) (by decide +kernel), rfl⟩
theorem kn_M_bad : Cond.instanceMethod y_M_bad ∈ ea_tb := List.mem_filter.mpr ⟨List.mem_of_getElem? (i := 191) (by decide +kernel), rfl⟩
theorem kc_M_bad : Cond.code y_M_bad b_M_bad 2 (some .boolean) ∈ ea_tb := List.mem_filter.mpr ⟨List.mem_of_getElem? (i := 192) (by decide +kernel), rfl⟩
theorem kl_M_45 : Cond.methodLink R_M 45 y_M_verdict ∈ ea_tb := List.mem_filter.mpr ⟨List.mem_of_getElem? (i := 193) (by decide +kernel), rfl⟩
theorem kn_M_verdict : Cond.instanceMethod y_M_verdict ∈ ea_tb := List.mem_filter.mpr ⟨List.mem_of_getElem? (i := 195) (by decide +kernel), rfl⟩
theorem kc_M_verdict : Cond.code y_M_verdict b_M_verdict 6 (some .int) ∈ ea_tb := List.mem_filter.mpr ⟨List.mem_of_getElem? (i := 196) (by decide +kernel), rfl⟩
theorem kl_M_33 : Cond.methodLink R_M 33 y_M_taken ∈ ea_tb := List.mem_filter.mpr ⟨List.mem_of_getElem? (i := 197) (by decide +kernel), rfl⟩
theorem kn_M_taken : Cond.instanceMethod y_M_taken ∈ ea_tb := List.mem_filter.mpr ⟨List.mem_of_getElem? (i := 199) (by decide +kernel), rfl⟩
theorem kc_M_taken : Cond.code y_M_taken b_M_taken 5 (some .int) ∈ ea_tb := List.mem_filter.mpr ⟨List.mem_of_getElem? (i := 200) (by decide +kernel), rfl⟩
theorem kl_M_29 : Cond.methodLink R_M 29 y_M_greatest ∈ ea_tb := List.mem_filter.mpr ⟨List.mem_of_getElem? (i := 201) (by decide +kernel), rfl⟩
theorem kn_M_greatest : Cond.instanceMethod y_M_greatest ∈ ea_tb := List.mem_filter.mpr ⟨List.mem_of_getElem? (i := 203) (by decide +kernel), rfl⟩
theorem kc_M_greatest : Cond.code y_M_greatest b_M_greatest 4 (some .int) ∈ ea_tb := List.mem_filter.mpr ⟨List.mem_of_getElem? (i := 204) (by decide +kernel), rfl⟩
theorem kl_M_37 : Cond.methodLink R_M 37 y_M_holds ∈ ea_tb := List.mem_filter.mpr ⟨List.mem_of_getElem? (i := 205) (by decide +kernel), rfl⟩
theorem kn_M_holds : Cond.instanceMethod y_M_holds ∈ ea_tb := List.mem_filter.mpr ⟨List.mem_of_getElem? (i := 207) (by decide +kernel), rfl⟩
theorem kc_M_holds : Cond.code y_M_holds b_M_holds 4 (some .boolean) ∈ ea_tb := List.mem_filter.mpr ⟨List.mem_of_getElem? (i := 208) (by decide +kernel), rfl⟩
theorem kl_L_35 : Cond.methodLink R_law 35 y_M_burst ∈ ea_tb := List.mem_filter.mpr ⟨List.mem_of_getElem? (i := 209) (by decide +kernel), rfl⟩
theorem kn_M_burst : Cond.instanceMethod y_M_burst ∈ ea_tb := List.mem_filter.mpr ⟨List.mem_of_getElem? (i := 210) (by decide +kernel), rfl⟩
theorem ks_M_burst : Cond.selects R_M y_M_burst y_M_burst ∈ ea_tb := List.mem_filter.mpr ⟨List.mem_of_getElem? (i := 211) (by decide +kernel), rfl⟩
theorem kc_M_burst : Cond.code y_M_burst b_M_burst 8 (some .int) ∈ ea_tb := List.mem_filter.mpr ⟨List.mem_of_getElem? (i := 212) (by decide +kernel), rfl⟩
theorem kl_M_49 : Cond.methodLink R_M 49 y_M_receive ∈ ea_tb := List.mem_filter.mpr ⟨List.mem_of_getElem? (i := 213) (by decide +kernel), rfl⟩
theorem kl_L_40 : Cond.methodLink R_law 40 y_M_rekey ∈ ea_tb := List.mem_filter.mpr ⟨List.mem_of_getElem? (i := 214) (by decide +kernel), rfl⟩
theorem kn_M_rekey : Cond.instanceMethod y_M_rekey ∈ ea_tb := List.mem_filter.mpr ⟨List.mem_of_getElem? (i := 215) (by decide +kernel), rfl⟩
theorem ks_M_rekey : Cond.selects R_M y_M_rekey y_M_rekey ∈ ea_tb := List.mem_filter.mpr ⟨List.mem_of_getElem? (i := 216) (by decide +kernel), rfl⟩
theorem kc_M_rekey : Cond.code y_M_rekey b_M_rekey 3 (some .int) ∈ ea_tb := List.mem_filter.mpr ⟨List.mem_of_getElem? (i := 217) (by decide +kernel), rfl⟩
theorem kl_L_44 : Cond.methodLink R_law 44 y_M_limits ∈ ea_tb := List.mem_filter.mpr ⟨List.mem_of_getElem? (i := 218) (by decide +kernel), rfl⟩
theorem kn_M_limits : Cond.instanceMethod y_M_limits ∈ ea_tb := List.mem_filter.mpr ⟨List.mem_of_getElem? (i := 219) (by decide +kernel), rfl⟩
theorem ks_M_limits : Cond.selects R_M y_M_limits y_M_limits ∈ ea_tb := List.mem_filter.mpr ⟨List.mem_of_getElem? (i := 220) (by decide +kernel), rfl⟩
theorem kc_M_limits : Cond.code y_M_limits b_M_limits 4 (some .int) ∈ ea_tb := List.mem_filter.mpr ⟨List.mem_of_getElem? (i := 221) (by decide +kernel), rfl⟩
theorem kl_M_52 : Cond.methodLink R_M 52 y_M_dead ∈ ea_tb := List.mem_filter.mpr ⟨List.mem_of_getElem? (i := 222) (by decide +kernel), rfl⟩
theorem kn_M_dead : Cond.instanceMethod y_M_dead ∈ ea_tb := List.mem_filter.mpr ⟨List.mem_of_getElem? (i := 223) (by decide +kernel), rfl⟩
theorem ks_M_dead : Cond.selects R_M y_M_dead y_M_dead ∈ ea_tb := List.mem_filter.mpr ⟨List.mem_of_getElem? (i := 224) (by decide +kernel), rfl⟩
theorem kc_M_dead : Cond.code y_M_dead b_M_dead 2 (some .int) ∈ ea_tb := List.mem_filter.mpr ⟨List.mem_of_getElem? (i := 225) (by decide +kernel), rfl⟩
theorem kl_L_48 : Cond.methodLink R_law 48 y_M_top ∈ ea_tb := List.mem_filter.mpr ⟨List.mem_of_getElem? (i := 226) (by decide +kernel), rfl⟩
theorem kn_M_top : Cond.instanceMethod y_M_top ∈ ea_tb := List.mem_filter.mpr ⟨List.mem_of_getElem? (i := 227) (by decide +kernel), rfl⟩
theorem ks_M_top : Cond.selects R_M y_M_top y_M_top ∈ ea_tb := List.mem_filter.mpr ⟨List.mem_of_getElem? (i := 228) (by decide +kernel), rfl⟩
theorem kc_M_top : Cond.code y_M_top b_M_top 2 (some .int) ∈ ea_tb := List.mem_filter.mpr ⟨List.mem_of_getElem? (i := 229) (by decide +kernel), rfl⟩
theorem kl_L_52 : Cond.methodLink R_law 52 y_M_accepted ∈ ea_tb := List.mem_filter.mpr ⟨List.mem_of_getElem? (i := 230) (by decide +kernel), rfl⟩
theorem kn_M_accepted : Cond.instanceMethod y_M_accepted ∈ ea_tb := List.mem_filter.mpr ⟨List.mem_of_getElem? (i := 231) (by decide +kernel), rfl⟩
theorem ks_M_accepted : Cond.selects R_M y_M_accepted y_M_accepted ∈ ea_tb := List.mem_filter.mpr ⟨List.mem_of_getElem? (i := 232) (by decide +kernel), rfl⟩
theorem kc_M_accepted : Cond.code y_M_accepted b_M_accepted 2 (some .int) ∈ ea_tb := List.mem_filter.mpr ⟨List.mem_of_getElem? (i := 233) (by decide +kernel), rfl⟩
theorem kl_L_56 : Cond.methodLink R_law 56 y_M_dead ∈ ea_tb := List.mem_filter.mpr ⟨List.mem_of_getElem? (i := 234) (by decide +kernel), rfl⟩
theorem kl_L_60 : Cond.methodLink R_law 60 y_M_aging ∈ ea_tb := List.mem_filter.mpr ⟨List.mem_of_getElem? (i := 235) (by decide +kernel), rfl⟩
theorem kn_M_aging : Cond.instanceMethod y_M_aging ∈ ea_tb := List.mem_filter.mpr ⟨List.mem_of_getElem? (i := 236) (by decide +kernel), rfl⟩
theorem ks_M_aging : Cond.selects R_M y_M_aging y_M_aging ∈ ea_tb := List.mem_filter.mpr ⟨List.mem_of_getElem? (i := 237) (by decide +kernel), rfl⟩
theorem kc_M_aging : Cond.code y_M_aging b_M_aging 2 (some .int) ∈ ea_tb := List.mem_filter.mpr ⟨List.mem_of_getElem? (i := 238) (by decide +kernel), rfl⟩
theorem kl_L_65 : Cond.methodLink R_law 65 y_M_count ∈ ea_tb := List.mem_filter.mpr ⟨List.mem_of_getElem? (i := 239) (by decide +kernel), rfl⟩
theorem kn_M_count : Cond.instanceMethod y_M_count ∈ ea_tb := List.mem_filter.mpr ⟨List.mem_of_getElem? (i := 240) (by decide +kernel), rfl⟩
theorem ks_M_count : Cond.selects R_M y_M_count y_M_count ∈ ea_tb := List.mem_filter.mpr ⟨List.mem_of_getElem? (i := 241) (by decide +kernel), rfl⟩
theorem kc_M_count : Cond.code y_M_count b_M_count 3 (some .int) ∈ ea_tb := List.mem_filter.mpr ⟨List.mem_of_getElem? (i := 242) (by decide +kernel), rfl⟩
theorem kl_L_69 : Cond.methodLink R_law 69 y_M_numberFor ∈ ea_tb := List.mem_filter.mpr ⟨List.mem_of_getElem? (i := 243) (by decide +kernel), rfl⟩
theorem kn_M_numberFor : Cond.instanceMethod y_M_numberFor ∈ ea_tb := List.mem_filter.mpr ⟨List.mem_of_getElem? (i := 244) (by decide +kernel), rfl⟩
theorem ks_M_numberFor : Cond.selects R_M y_M_numberFor y_M_numberFor ∈ ea_tb := List.mem_filter.mpr ⟨List.mem_of_getElem? (i := 245) (by decide +kernel), rfl⟩
theorem kc_M_numberFor : Cond.code y_M_numberFor b_M_numberFor 3 (some .int) ∈ ea_tb := List.mem_filter.mpr ⟨List.mem_of_getElem? (i := 246) (by decide +kernel), rfl⟩
theorem kl_L_73 : Cond.methodLink R_law 73 y_M_has ∈ ea_tb := List.mem_filter.mpr ⟨List.mem_of_getElem? (i := 247) (by decide +kernel), rfl⟩
theorem kn_M_has : Cond.instanceMethod y_M_has ∈ ea_tb := List.mem_filter.mpr ⟨List.mem_of_getElem? (i := 248) (by decide +kernel), rfl⟩
theorem ks_M_has : Cond.selects R_M y_M_has y_M_has ∈ ea_tb := List.mem_filter.mpr ⟨List.mem_of_getElem? (i := 249) (by decide +kernel), rfl⟩
theorem kc_M_has : Cond.code y_M_has b_M_has 3 (some .int) ∈ ea_tb := List.mem_filter.mpr ⟨List.mem_of_getElem? (i := 250) (by decide +kernel), rfl⟩
theorem kl_L_77 : Cond.methodLink R_law 77 y_M_inWindow ∈ ea_tb := List.mem_filter.mpr ⟨List.mem_of_getElem? (i := 251) (by decide +kernel), rfl⟩
theorem kn_M_inWindow : Cond.instanceMethod y_M_inWindow ∈ ea_tb := List.mem_filter.mpr ⟨List.mem_of_getElem? (i := 252) (by decide +kernel), rfl⟩
theorem ks_M_inWindow : Cond.selects R_M y_M_inWindow y_M_inWindow ∈ ea_tb := List.mem_filter.mpr ⟨List.mem_of_getElem? (i := 253) (by decide +kernel), rfl⟩
theorem kc_M_inWindow : Cond.code y_M_inWindow b_M_inWindow 5 (some .int) ∈ ea_tb := List.mem_filter.mpr ⟨List.mem_of_getElem? (i := 254) (by decide +kernel), rfl⟩
theorem kl_L_81 : Cond.methodLink R_law 81 y_M_lost ∈ ea_tb := List.mem_filter.mpr ⟨List.mem_of_getElem? (i := 255) (by decide +kernel), rfl⟩
theorem kn_M_lost : Cond.instanceMethod y_M_lost ∈ ea_tb := List.mem_filter.mpr ⟨List.mem_of_getElem? (i := 256) (by decide +kernel), rfl⟩
theorem ks_M_lost : Cond.selects R_M y_M_lost y_M_lost ∈ ea_tb := List.mem_filter.mpr ⟨List.mem_of_getElem? (i := 257) (by decide +kernel), rfl⟩
theorem kc_M_lost : Cond.code y_M_lost b_M_lost 5 (some .int) ∈ ea_tb := List.mem_filter.mpr ⟨List.mem_of_getElem? (i := 258) (by decide +kernel), rfl⟩
theorem kl_L_85 : Cond.methodLink R_law 85 y_M_gap ∈ ea_tb := List.mem_filter.mpr ⟨List.mem_of_getElem? (i := 259) (by decide +kernel), rfl⟩
theorem kn_M_gap : Cond.instanceMethod y_M_gap ∈ ea_tb := List.mem_filter.mpr ⟨List.mem_of_getElem? (i := 260) (by decide +kernel), rfl⟩
theorem ks_M_gap : Cond.selects R_M y_M_gap y_M_gap ∈ ea_tb := List.mem_filter.mpr ⟨List.mem_of_getElem? (i := 261) (by decide +kernel), rfl⟩
theorem kc_M_gap : Cond.code y_M_gap b_M_gap 4 (some .int) ∈ ea_tb := List.mem_filter.mpr ⟨List.mem_of_getElem? (i := 262) (by decide +kernel), rfl⟩
end
section
theorem d_X_init_0 : decode b_X_init 0 = .ok (.aload_n 0, 1) := by decide +kernel
theorem d_X_init_1 : decode b_X_init 1 = .ok (.invokespecial 1, 3) := by decide +kernel
theorem d_X_init_4 : decode b_X_init 4 = .ok (.aload_n 0, 1) := by decide +kernel
theorem d_X_init_5 : decode b_X_init 5 = .ok (.iconst 4, 1) := by decide +kernel
theorem d_X_init_6 : decode b_X_init 6 = .ok (.newarray .int, 2) := by decide +kernel
theorem d_X_init_8 : decode b_X_init 8 = .ok (.putfield 7, 3) := by decide +kernel
theorem d_X_init_11 : decode b_X_init 11 = .ok (.aload_n 0, 1) := by decide +kernel
theorem d_X_init_12 : decode b_X_init 12 = .ok (.iconst 4, 1) := by decide +kernel
theorem d_X_init_13 : decode b_X_init 13 = .ok (.newarray .int, 2) := by decide +kernel
theorem d_X_init_15 : decode b_X_init 15 = .ok (.putfield 13, 3) := by decide +kernel
theorem d_X_init_18 : decode b_X_init 18 = .ok (.aload_n 0, 1) := by decide +kernel
theorem d_X_init_19 : decode b_X_init 19 = .ok (.iconst 4, 1) := by decide +kernel
theorem d_X_init_20 : decode b_X_init 20 = .ok (.newarray .long, 2) := by decide +kernel
theorem d_X_init_22 : decode b_X_init 22 = .ok (.putfield 16, 3) := by decide +kernel
theorem d_X_init_25 : decode b_X_init 25 = .ok (.aload_n 0, 1) := by decide +kernel
theorem d_X_init_26 : decode b_X_init 26 = .ok (.iconst 4, 1) := by decide +kernel
theorem d_X_init_27 : decode b_X_init 27 = .ok (.newarray .int, 2) := by decide +kernel
theorem d_X_init_29 : decode b_X_init 29 = .ok (.putfield 20, 3) := by decide +kernel
theorem d_X_init_32 : decode b_X_init 32 = .ok (.aload_n 0, 1) := by decide +kernel
theorem d_X_init_33 : decode b_X_init 33 = .ok (.sipush 240, 3) := by decide +kernel
theorem d_X_init_36 : decode b_X_init 36 = .ok (.newarray .int, 2) := by decide +kernel
theorem d_X_init_38 : decode b_X_init 38 = .ok (.putfield 23, 3) := by decide +kernel
theorem d_X_init_41 : decode b_X_init 41 = .ok (.aload_n 0, 1) := by decide +kernel
theorem d_X_init_42 : decode b_X_init 42 = .ok (.iconst 4, 1) := by decide +kernel
theorem d_X_init_43 : decode b_X_init 43 = .ok (.newarray .int, 2) := by decide +kernel
theorem d_X_init_45 : decode b_X_init 45 = .ok (.putfield 26, 3) := by decide +kernel
theorem d_X_init_48 : decode b_X_init 48 = .ok (.aload_n 0, 1) := by decide +kernel
theorem d_X_init_49 : decode b_X_init 49 = .ok (.iconst 4, 1) := by decide +kernel
theorem d_X_init_50 : decode b_X_init 50 = .ok (.newarray .int, 2) := by decide +kernel
theorem d_X_init_52 : decode b_X_init 52 = .ok (.putfield 29, 3) := by decide +kernel
theorem d_X_init_55 : decode b_X_init 55 = .ok (.aload_n 0, 1) := by decide +kernel
theorem d_X_init_56 : decode b_X_init 56 = .ok (.bipush 24, 2) := by decide +kernel
theorem d_X_init_58 : decode b_X_init 58 = .ok (.newarray .int, 2) := by decide +kernel
theorem d_X_init_60 : decode b_X_init 60 = .ok (.putfield 32, 3) := by decide +kernel
theorem d_X_init_63 : decode b_X_init 63 = .ok (.aload_n 0, 1) := by decide +kernel
theorem d_X_init_64 : decode b_X_init 64 = .ok (.iload_n 1, 1) := by decide +kernel
theorem d_X_init_65 : decode b_X_init 65 = .ok (.iconst 4, 1) := by decide +kernel
theorem d_X_init_66 : decode b_X_init 66 = .ok (.if_icmp .ge 7, 3) := by decide +kernel
theorem d_X_init_69 : decode b_X_init 69 = .ok (.iconst 4, 1) := by decide +kernel
theorem d_X_init_70 : decode b_X_init 70 = .ok (.goto 4, 3) := by decide +kernel
theorem d_X_init_73 : decode b_X_init 73 = .ok (.iload_n 1, 1) := by decide +kernel
theorem d_X_init_74 : decode b_X_init 74 = .ok (.putfield 35, 3) := by decide +kernel
theorem d_X_init_77 : decode b_X_init 77 = .ok (.aload_n 0, 1) := by decide +kernel
theorem d_X_init_78 : decode b_X_init 78 = .ok (.getfield 35, 3) := by decide +kernel
theorem d_X_init_81 : decode b_X_init 81 = .ok (.bipush 64, 2) := by decide +kernel
theorem d_X_init_83 : decode b_X_init 83 = .ok (.if_icmp .le 9, 3) := by decide +kernel
theorem d_X_init_86 : decode b_X_init 86 = .ok (.aload_n 0, 1) := by decide +kernel
theorem d_X_init_87 : decode b_X_init 87 = .ok (.bipush 64, 2) := by decide +kernel
theorem d_X_init_89 : decode b_X_init 89 = .ok (.putfield 35, 3) := by decide +kernel
theorem d_X_init_92 : decode b_X_init 92 = .ok (.aload_n 0, 1) := by decide +kernel
theorem d_X_init_93 : decode b_X_init 93 = .ok (.aload_n 0, 1) := by decide +kernel
theorem d_X_init_94 : decode b_X_init 94 = .ok (.getfield 35, 3) := by decide +kernel
theorem d_X_init_97 : decode b_X_init 97 = .ok (.bipush 64, 2) := by decide +kernel
theorem d_X_init_99 : decode b_X_init 99 = .ok (.if_icmp .ne 9, 3) := by decide +kernel
theorem d_X_init_102 : decode b_X_init 102 = .ok (.ldc2_w 39, 3) := by decide +kernel
theorem d_X_init_105 : decode b_X_init 105 = .ok (.goto 11, 3) := by decide +kernel
theorem d_X_init_108 : decode b_X_init 108 = .ok (.lconst 1, 1) := by decide +kernel
theorem d_X_init_109 : decode b_X_init 109 = .ok (.aload_n 0, 1) := by decide +kernel
theorem d_X_init_110 : decode b_X_init 110 = .ok (.getfield 35, 3) := by decide +kernel
theorem d_X_init_113 : decode b_X_init 113 = .ok (.lshl, 1) := by decide +kernel
theorem d_X_init_114 : decode b_X_init 114 = .ok (.lconst 1, 1) := by decide +kernel
theorem d_X_init_115 : decode b_X_init 115 = .ok (.lsub, 1) := by decide +kernel
theorem d_X_init_116 : decode b_X_init 116 = .ok (.putfield 41, 3) := by decide +kernel
theorem d_X_init_119 : decode b_X_init 119 = .ok (.iconst 0, 1) := by decide +kernel
theorem d_X_init_120 : decode b_X_init 120 = .ok (.istore_n 2, 1) := by decide +kernel
theorem d_X_init_121 : decode b_X_init 121 = .ok (.iload_n 2, 1) := by decide +kernel
theorem d_X_init_122 : decode b_X_init 122 = .ok (.iconst 4, 1) := by decide +kernel
theorem d_X_init_123 : decode b_X_init 123 = .ok (.if_icmp .ge 25, 3) := by decide +kernel
theorem d_X_init_126 : decode b_X_init 126 = .ok (.aload_n 0, 1) := by decide +kernel
theorem d_X_init_127 : decode b_X_init 127 = .ok (.getfield 26, 3) := by decide +kernel
theorem d_X_init_130 : decode b_X_init 130 = .ok (.iload_n 2, 1) := by decide +kernel
theorem d_X_init_131 : decode b_X_init 131 = .ok (.bipush 40, 2) := by decide +kernel
theorem d_X_init_133 : decode b_X_init 133 = .ok (.iastore, 1) := by decide +kernel
theorem d_X_init_134 : decode b_X_init 134 = .ok (.aload_n 0, 1) := by decide +kernel
theorem d_X_init_135 : decode b_X_init 135 = .ok (.getfield 29, 3) := by decide +kernel
theorem d_X_init_138 : decode b_X_init 138 = .ok (.iload_n 2, 1) := by decide +kernel
theorem d_X_init_139 : decode b_X_init 139 = .ok (.bipush 60, 2) := by decide +kernel
theorem d_X_init_141 : decode b_X_init 141 = .ok (.iastore, 1) := by decide +kernel
theorem d_X_init_142 : decode b_X_init 142 = .ok (.iinc 2 1, 3) := by decide +kernel
theorem d_X_init_145 : decode b_X_init 145 = .ok (.goto (-24), 3) := by decide +kernel
theorem d_X_init_148 : decode b_X_init 148 = .ok (.return_, 1) := by decide +kernel
theorem d_X_window_0 : decode b_X_window 0 = .ok (.aload_n 0, 1) := by decide +kernel
theorem d_X_window_1 : decode b_X_window 1 = .ok (.getfield 35, 3) := by decide +kernel
theorem d_X_window_4 : decode b_X_window 4 = .ok (.ireturn, 1) := by decide +kernel
theorem d_X_receive_0 : decode b_X_receive 0 = .ok (.iload_n 1, 1) := by decide +kernel
theorem d_X_receive_1 : decode b_X_receive 1 = .ok (.invokestatic 45, 3) := by decide +kernel
theorem d_X_receive_4 : decode b_X_receive 4 = .ok (.ifCond .ne 5, 3) := by decide +kernel
theorem d_X_receive_7 : decode b_X_receive 7 = .ok (.iconst (-1), 1) := by decide +kernel
theorem d_X_receive_8 : decode b_X_receive 8 = .ok (.ireturn, 1) := by decide +kernel
theorem d_X_receive_9 : decode b_X_receive 9 = .ok (.iload_n 2, 1) := by decide +kernel
theorem d_X_receive_10 : decode b_X_receive 10 = .ok (.invokestatic 49, 3) := by decide +kernel
theorem d_X_receive_13 : decode b_X_receive 13 = .ok (.ifCond .ne 6, 3) := by decide +kernel
theorem d_X_receive_16 : decode b_X_receive 16 = .ok (.bipush (-2), 2) := by decide +kernel
theorem d_X_receive_18 : decode b_X_receive 18 = .ok (.ireturn, 1) := by decide +kernel
theorem d_X_receive_19 : decode b_X_receive 19 = .ok (.aload_n 0, 1) := by decide +kernel
theorem d_X_receive_20 : decode b_X_receive 20 = .ok (.iload_n 1, 1) := by decide +kernel
theorem d_X_receive_21 : decode b_X_receive 21 = .ok (.iload_n 2, 1) := by decide +kernel
theorem d_X_receive_22 : decode b_X_receive 22 = .ok (.iload_n 3, 1) := by decide +kernel
theorem d_X_receive_23 : decode b_X_receive 23 = .ok (.ifCond .eq 7, 3) := by decide +kernel
theorem d_X_receive_26 : decode b_X_receive 26 = .ok (.iconst 1, 1) := by decide +kernel
theorem d_X_receive_27 : decode b_X_receive 27 = .ok (.goto 4, 3) := by decide +kernel
theorem d_X_receive_30 : decode b_X_receive 30 = .ok (.iconst 0, 1) := by decide +kernel
theorem d_X_receive_31 : decode b_X_receive 31 = .ok (.invokevirtual 52, 3) := by decide +kernel
theorem d_X_receive_34 : decode b_X_receive 34 = .ok (.ireturn, 1) := by decide +kernel
theorem d_X_isLine_0 : decode b_X_isLine 0 = .ok (.iload_n 0, 1) := by decide +kernel
theorem d_X_isLine_1 : decode b_X_isLine 1 = .ok (.ifCond .lt 12, 3) := by decide +kernel
theorem d_X_isLine_4 : decode b_X_isLine 4 = .ok (.iload_n 0, 1) := by decide +kernel
theorem d_X_isLine_5 : decode b_X_isLine 5 = .ok (.iconst 3, 1) := by decide +kernel
theorem d_X_isLine_6 : decode b_X_isLine 6 = .ok (.if_icmp .gt 7, 3) := by decide +kernel
theorem d_X_isLine_9 : decode b_X_isLine 9 = .ok (.iconst 1, 1) := by decide +kernel
theorem d_X_isLine_10 : decode b_X_isLine 10 = .ok (.goto 4, 3) := by decide +kernel
theorem d_X_isLine_13 : decode b_X_isLine 13 = .ok (.iconst 0, 1) := by decide +kernel
theorem d_X_isLine_14 : decode b_X_isLine 14 = .ok (.ireturn, 1) := by decide +kernel
theorem d_X_isLow_0 : decode b_X_isLow 0 = .ok (.iload_n 0, 1) := by decide +kernel
theorem d_X_isLow_1 : decode b_X_isLow 1 = .ok (.ifCond .lt 14, 3) := by decide +kernel
theorem d_X_isLow_4 : decode b_X_isLow 4 = .ok (.iload_n 0, 1) := by decide +kernel
theorem d_X_isLow_5 : decode b_X_isLow 5 = .ok (.sipush 255, 3) := by decide +kernel
theorem d_X_isLow_8 : decode b_X_isLow 8 = .ok (.if_icmp .gt 7, 3) := by decide +kernel
theorem d_X_isLow_11 : decode b_X_isLow 11 = .ok (.iconst 1, 1) := by decide +kernel
theorem d_X_isLow_12 : decode b_X_isLow 12 = .ok (.goto 4, 3) := by decide +kernel
theorem d_X_isLow_15 : decode b_X_isLow 15 = .ok (.iconst 0, 1) := by decide +kernel
theorem d_X_isLow_16 : decode b_X_isLow 16 = .ok (.ireturn, 1) := by decide +kernel
theorem d_X_judge_0 : decode b_X_judge 0 = .ok (.aload_n 0, 1) := by decide +kernel
theorem d_X_judge_1 : decode b_X_judge 1 = .ok (.iload_n 1, 1) := by decide +kernel
theorem d_X_judge_2 : decode b_X_judge 2 = .ok (.iload_n 2, 1) := by decide +kernel
theorem d_X_judge_3 : decode b_X_judge 3 = .ok (.invokevirtual 60, 3) := by decide +kernel
theorem d_X_judge_6 : decode b_X_judge 6 = .ok (.istore 4, 2) := by decide +kernel
theorem d_X_judge_8 : decode b_X_judge 8 = .ok (.iconst 1, 1) := by decide +kernel
theorem d_X_judge_9 : decode b_X_judge 9 = .ok (.istore 5, 2) := by decide +kernel
theorem d_X_judge_11 : decode b_X_judge 11 = .ok (.aload_n 0, 1) := by decide +kernel
theorem d_X_judge_12 : decode b_X_judge 12 = .ok (.getfield 20, 3) := by decide +kernel
theorem d_X_judge_15 : decode b_X_judge 15 = .ok (.iload_n 1, 1) := by decide +kernel
theorem d_X_judge_16 : decode b_X_judge 16 = .ok (.iaload, 1) := by decide +kernel
theorem d_X_judge_17 : decode b_X_judge 17 = .ok (.aload_n 0, 1) := by decide +kernel
theorem d_X_judge_18 : decode b_X_judge 18 = .ok (.getfield 29, 3) := by decide +kernel
theorem d_X_judge_21 : decode b_X_judge 21 = .ok (.iload_n 1, 1) := by decide +kernel
theorem d_X_judge_22 : decode b_X_judge 22 = .ok (.iaload, 1) := by decide +kernel
theorem d_X_judge_23 : decode b_X_judge 23 = .ok (.if_icmp .lt 9, 3) := by decide +kernel
theorem d_X_judge_26 : decode b_X_judge 26 = .ok (.iconst 5, 1) := by decide +kernel
theorem d_X_judge_27 : decode b_X_judge 27 = .ok (.istore 5, 2) := by decide +kernel
theorem d_X_judge_29 : decode b_X_judge 29 = .ok (.goto 48, 3) := by decide +kernel
theorem d_X_judge_32 : decode b_X_judge 32 = .ok (.iload 4, 2) := by decide +kernel
theorem d_X_judge_34 : decode b_X_judge 34 = .ok (.iconst 1, 1) := by decide +kernel
theorem d_X_judge_35 : decode b_X_judge 35 = .ok (.if_icmp .ge 9, 3) := by decide +kernel
theorem d_X_judge_38 : decode b_X_judge 38 = .ok (.iconst 3, 1) := by decide +kernel
theorem d_X_judge_39 : decode b_X_judge 39 = .ok (.istore 5, 2) := by decide +kernel
theorem d_X_judge_41 : decode b_X_judge 41 = .ok (.goto 36, 3) := by decide +kernel
theorem d_X_judge_44 : decode b_X_judge 44 = .ok (.aload_n 0, 1) := by decide +kernel
theorem d_X_judge_45 : decode b_X_judge 45 = .ok (.iload_n 1, 1) := by decide +kernel
theorem d_X_judge_46 : decode b_X_judge 46 = .ok (.iload 4, 2) := by decide +kernel
theorem d_X_judge_48 : decode b_X_judge 48 = .ok (.invokevirtual 79, 3) := by decide +kernel
theorem d_X_judge_51 : decode b_X_judge 51 = .ok (.ifCond .eq 9, 3) := by decide +kernel
theorem d_X_judge_54 : decode b_X_judge 54 = .ok (.iconst 2, 1) := by decide +kernel
theorem d_X_judge_55 : decode b_X_judge 55 = .ok (.istore 5, 2) := by decide +kernel
theorem d_X_judge_57 : decode b_X_judge 57 = .ok (.goto 20, 3) := by decide +kernel
theorem d_X_judge_60 : decode b_X_judge 60 = .ok (.iload_n 3, 1) := by decide +kernel
theorem d_X_judge_61 : decode b_X_judge 61 = .ok (.ifCond .ne 9, 3) := by decide +kernel
theorem d_X_judge_64 : decode b_X_judge 64 = .ok (.iconst 4, 1) := by decide +kernel
theorem d_X_judge_65 : decode b_X_judge 65 = .ok (.istore 5, 2) := by decide +kernel
theorem d_X_judge_67 : decode b_X_judge 67 = .ok (.goto 10, 3) := by decide +kernel
theorem d_X_judge_70 : decode b_X_judge 70 = .ok (.aload_n 0, 1) := by decide +kernel
theorem d_X_judge_71 : decode b_X_judge 71 = .ok (.iload_n 1, 1) := by decide +kernel
theorem d_X_judge_72 : decode b_X_judge 72 = .ok (.iload 4, 2) := by decide +kernel
theorem d_X_judge_74 : decode b_X_judge 74 = .ok (.invokevirtual 83, 3) := by decide +kernel
theorem d_X_judge_77 : decode b_X_judge 77 = .ok (.aload_n 0, 1) := by decide +kernel
theorem d_X_judge_78 : decode b_X_judge 78 = .ok (.getfield 32, 3) := by decide +kernel
theorem d_X_judge_81 : decode b_X_judge 81 = .ok (.bipush 6, 2) := by decide +kernel
theorem d_X_judge_83 : decode b_X_judge 83 = .ok (.iload_n 1, 1) := by decide +kernel
theorem d_X_judge_84 : decode b_X_judge 84 = .ok (.imul, 1) := by decide +kernel
theorem d_X_judge_85 : decode b_X_judge 85 = .ok (.iload 5, 2) := by decide +kernel
theorem d_X_judge_87 : decode b_X_judge 87 = .ok (.iadd, 1) := by decide +kernel
theorem d_X_judge_88 : decode b_X_judge 88 = .ok (.dup2, 1) := by decide +kernel
theorem d_X_judge_89 : decode b_X_judge 89 = .ok (.iaload, 1) := by decide +kernel
theorem d_X_judge_90 : decode b_X_judge 90 = .ok (.iconst 1, 1) := by decide +kernel
theorem d_X_judge_91 : decode b_X_judge 91 = .ok (.iadd, 1) := by decide +kernel
theorem d_X_judge_92 : decode b_X_judge 92 = .ok (.iastore, 1) := by decide +kernel
theorem d_X_judge_93 : decode b_X_judge 93 = .ok (.iload 5, 2) := by decide +kernel
theorem d_X_judge_95 : decode b_X_judge 95 = .ok (.ireturn, 1) := by decide +kernel
theorem d_X_infer_0 : decode b_X_infer 0 = .ok (.aload_n 0, 1) := by decide +kernel
theorem d_X_infer_1 : decode b_X_infer 1 = .ok (.getfield 13, 3) := by decide +kernel
theorem d_X_infer_4 : decode b_X_infer 4 = .ok (.iload_n 1, 1) := by decide +kernel
theorem d_X_infer_5 : decode b_X_infer 5 = .ok (.iaload, 1) := by decide +kernel
theorem d_X_infer_6 : decode b_X_infer 6 = .ok (.aload_n 0, 1) := by decide +kernel
theorem d_X_infer_7 : decode b_X_infer 7 = .ok (.getfield 35, 3) := by decide +kernel
theorem d_X_infer_10 : decode b_X_infer 10 = .ok (.isub, 1) := by decide +kernel
theorem d_X_infer_11 : decode b_X_infer 11 = .ok (.iconst 1, 1) := by decide +kernel
theorem d_X_infer_12 : decode b_X_infer 12 = .ok (.iadd, 1) := by decide +kernel
theorem d_X_infer_13 : decode b_X_infer 13 = .ok (.istore_n 3, 1) := by decide +kernel
theorem d_X_infer_14 : decode b_X_infer 14 = .ok (.aload_n 0, 1) := by decide +kernel
theorem d_X_infer_15 : decode b_X_infer 15 = .ok (.getfield 7, 3) := by decide +kernel
theorem d_X_infer_18 : decode b_X_infer 18 = .ok (.iload_n 1, 1) := by decide +kernel
theorem d_X_infer_19 : decode b_X_infer 19 = .ok (.iaload, 1) := by decide +kernel
theorem d_X_infer_20 : decode b_X_infer 20 = .ok (.istore 4, 2) := by decide +kernel
theorem d_X_infer_22 : decode b_X_infer 22 = .ok (.iload_n 3, 1) := by decide +kernel
theorem d_X_infer_23 : decode b_X_infer 23 = .ok (.ifCond .lt 22, 3) := by decide +kernel
theorem d_X_infer_26 : decode b_X_infer 26 = .ok (.iload_n 2, 1) := by decide +kernel
theorem d_X_infer_27 : decode b_X_infer 27 = .ok (.iload_n 3, 1) := by decide +kernel
theorem d_X_infer_28 : decode b_X_infer 28 = .ok (.if_icmp .lt 8, 3) := by decide +kernel
theorem d_X_infer_31 : decode b_X_infer 31 = .ok (.iload 4, 2) := by decide +kernel
theorem d_X_infer_33 : decode b_X_infer 33 = .ok (.goto 7, 3) := by decide +kernel
theorem d_X_infer_36 : decode b_X_infer 36 = .ok (.iload 4, 2) := by decide +kernel
theorem d_X_infer_38 : decode b_X_infer 38 = .ok (.iconst 1, 1) := by decide +kernel
theorem d_X_infer_39 : decode b_X_infer 39 = .ok (.iadd, 1) := by decide +kernel
theorem d_X_infer_40 : decode b_X_infer 40 = .ok (.istore 4, 2) := by decide +kernel
theorem d_X_infer_42 : decode b_X_infer 42 = .ok (.goto 23, 3) := by decide +kernel
theorem d_X_infer_45 : decode b_X_infer 45 = .ok (.iload_n 2, 1) := by decide +kernel
theorem d_X_infer_46 : decode b_X_infer 46 = .ok (.iload_n 3, 1) := by decide +kernel
theorem d_X_infer_47 : decode b_X_infer 47 = .ok (.sipush 256, 3) := by decide +kernel
theorem d_X_infer_50 : decode b_X_infer 50 = .ok (.iadd, 1) := by decide +kernel
theorem d_X_infer_51 : decode b_X_infer 51 = .ok (.if_icmp .lt 10, 3) := by decide +kernel
theorem d_X_infer_54 : decode b_X_infer 54 = .ok (.iload 4, 2) := by decide +kernel
theorem d_X_infer_56 : decode b_X_infer 56 = .ok (.iconst 1, 1) := by decide +kernel
theorem d_X_infer_57 : decode b_X_infer 57 = .ok (.isub, 1) := by decide +kernel
theorem d_X_infer_58 : decode b_X_infer 58 = .ok (.goto 5, 3) := by decide +kernel
theorem d_X_infer_61 : decode b_X_infer 61 = .ok (.iload 4, 2) := by decide +kernel
theorem d_X_infer_63 : decode b_X_infer 63 = .ok (.istore 4, 2) := by decide +kernel
theorem d_X_infer_65 : decode b_X_infer 65 = .ok (.sipush 256, 3) := by decide +kernel
theorem d_X_infer_68 : decode b_X_infer 68 = .ok (.iload 4, 2) := by decide +kernel
theorem d_X_infer_70 : decode b_X_infer 70 = .ok (.imul, 1) := by decide +kernel
theorem d_X_infer_71 : decode b_X_infer 71 = .ok (.iload_n 2, 1) := by decide +kernel
theorem d_X_infer_72 : decode b_X_infer 72 = .ok (.iadd, 1) := by decide +kernel
theorem d_X_infer_73 : decode b_X_infer 73 = .ok (.ireturn, 1) := by decide +kernel
theorem d_X_isSeen_0 : decode b_X_isSeen 0 = .ok (.aload_n 0, 1) := by decide +kernel
theorem d_X_isSeen_1 : decode b_X_isSeen 1 = .ok (.iload_n 1, 1) := by decide +kernel
theorem d_X_isSeen_2 : decode b_X_isSeen 2 = .ok (.invokevirtual 56, 3) := by decide +kernel
theorem d_X_isSeen_5 : decode b_X_isSeen 5 = .ok (.iload_n 2, 1) := by decide +kernel
theorem d_X_isSeen_6 : decode b_X_isSeen 6 = .ok (.isub, 1) := by decide +kernel
theorem d_X_isSeen_7 : decode b_X_isSeen 7 = .ok (.istore_n 3, 1) := by decide +kernel
theorem d_X_isSeen_8 : decode b_X_isSeen 8 = .ok (.iload_n 3, 1) := by decide +kernel
theorem d_X_isSeen_9 : decode b_X_isSeen 9 = .ok (.ifCond .lt 22, 3) := by decide +kernel
theorem d_X_isSeen_12 : decode b_X_isSeen 12 = .ok (.aload_n 0, 1) := by decide +kernel
theorem d_X_isSeen_13 : decode b_X_isSeen 13 = .ok (.getfield 16, 3) := by decide +kernel
theorem d_X_isSeen_16 : decode b_X_isSeen 16 = .ok (.iload_n 1, 1) := by decide +kernel
theorem d_X_isSeen_17 : decode b_X_isSeen 17 = .ok (.laload, 1) := by decide +kernel
theorem d_X_isSeen_18 : decode b_X_isSeen 18 = .ok (.iload_n 3, 1) := by decide +kernel
theorem d_X_isSeen_19 : decode b_X_isSeen 19 = .ok (.lushr, 1) := by decide +kernel
theorem d_X_isSeen_20 : decode b_X_isSeen 20 = .ok (.lconst 1, 1) := by decide +kernel
theorem d_X_isSeen_21 : decode b_X_isSeen 21 = .ok (.land, 1) := by decide +kernel
theorem d_X_isSeen_22 : decode b_X_isSeen 22 = .ok (.lconst 1, 1) := by decide +kernel
theorem d_X_isSeen_23 : decode b_X_isSeen 23 = .ok (.lcmp, 1) := by decide +kernel
theorem d_X_isSeen_24 : decode b_X_isSeen 24 = .ok (.ifCond .ne 7, 3) := by decide +kernel
theorem d_X_isSeen_27 : decode b_X_isSeen 27 = .ok (.iconst 1, 1) := by decide +kernel
theorem d_X_isSeen_28 : decode b_X_isSeen 28 = .ok (.goto 4, 3) := by decide +kernel
theorem d_X_isSeen_31 : decode b_X_isSeen 31 = .ok (.iconst 0, 1) := by decide +kernel
theorem d_X_isSeen_32 : decode b_X_isSeen 32 = .ok (.ireturn, 1) := by decide +kernel
theorem d_X_topOf_0 : decode b_X_topOf 0 = .ok (.sipush 256, 3) := by decide +kernel
theorem d_X_topOf_3 : decode b_X_topOf 3 = .ok (.aload_n 0, 1) := by decide +kernel
theorem d_X_topOf_4 : decode b_X_topOf 4 = .ok (.getfield 7, 3) := by decide +kernel
theorem d_X_topOf_7 : decode b_X_topOf 7 = .ok (.iload_n 1, 1) := by decide +kernel
theorem d_X_topOf_8 : decode b_X_topOf 8 = .ok (.iaload, 1) := by decide +kernel
theorem d_X_topOf_9 : decode b_X_topOf 9 = .ok (.imul, 1) := by decide +kernel
theorem d_X_topOf_10 : decode b_X_topOf 10 = .ok (.aload_n 0, 1) := by decide +kernel
theorem d_X_topOf_11 : decode b_X_topOf 11 = .ok (.getfield 13, 3) := by decide +kernel
theorem d_X_topOf_14 : decode b_X_topOf 14 = .ok (.iload_n 1, 1) := by decide +kernel
theorem d_X_topOf_15 : decode b_X_topOf 15 = .ok (.iaload, 1) := by decide +kernel
theorem d_X_topOf_16 : decode b_X_topOf 16 = .ok (.iadd, 1) := by decide +kernel
theorem d_X_topOf_17 : decode b_X_topOf 17 = .ok (.ireturn, 1) := by decide +kernel
theorem d_X_accept_0 : decode b_X_accept 0 = .ok (.iload_n 2, 1) := by decide +kernel
theorem d_X_accept_1 : decode b_X_accept 1 = .ok (.aload_n 0, 1) := by decide +kernel
theorem d_X_accept_2 : decode b_X_accept 2 = .ok (.iload_n 1, 1) := by decide +kernel
theorem d_X_accept_3 : decode b_X_accept 3 = .ok (.invokevirtual 56, 3) := by decide +kernel
theorem d_X_accept_6 : decode b_X_accept 6 = .ok (.isub, 1) := by decide +kernel
theorem d_X_accept_7 : decode b_X_accept 7 = .ok (.istore_n 3, 1) := by decide +kernel
theorem d_X_accept_8 : decode b_X_accept 8 = .ok (.iload_n 3, 1) := by decide +kernel
theorem d_X_accept_9 : decode b_X_accept 9 = .ok (.ifCond .le 58, 3) := by decide +kernel
theorem d_X_accept_12 : decode b_X_accept 12 = .ok (.aload_n 0, 1) := by decide +kernel
theorem d_X_accept_13 : decode b_X_accept 13 = .ok (.getfield 16, 3) := by decide +kernel
theorem d_X_accept_16 : decode b_X_accept 16 = .ok (.iload_n 1, 1) := by decide +kernel
theorem d_X_accept_17 : decode b_X_accept 17 = .ok (.iload_n 3, 1) := by decide +kernel
theorem d_X_accept_18 : decode b_X_accept 18 = .ok (.bipush 63, 2) := by decide +kernel
theorem d_X_accept_20 : decode b_X_accept 20 = .ok (.if_icmp .le 7, 3) := by decide +kernel
theorem d_X_accept_23 : decode b_X_accept 23 = .ok (.lconst 1, 1) := by decide +kernel
theorem d_X_accept_24 : decode b_X_accept 24 = .ok (.goto 18, 3) := by decide +kernel
theorem d_X_accept_27 : decode b_X_accept 27 = .ok (.aload_n 0, 1) := by decide +kernel
theorem d_X_accept_28 : decode b_X_accept 28 = .ok (.getfield 16, 3) := by decide +kernel
theorem d_X_accept_31 : decode b_X_accept 31 = .ok (.iload_n 1, 1) := by decide +kernel
theorem d_X_accept_32 : decode b_X_accept 32 = .ok (.laload, 1) := by decide +kernel
theorem d_X_accept_33 : decode b_X_accept 33 = .ok (.iload_n 3, 1) := by decide +kernel
theorem d_X_accept_34 : decode b_X_accept 34 = .ok (.lshl, 1) := by decide +kernel
theorem d_X_accept_35 : decode b_X_accept 35 = .ok (.lconst 1, 1) := by decide +kernel
theorem d_X_accept_36 : decode b_X_accept 36 = .ok (.lor, 1) := by decide +kernel
theorem d_X_accept_37 : decode b_X_accept 37 = .ok (.aload_n 0, 1) := by decide +kernel
theorem d_X_accept_38 : decode b_X_accept 38 = .ok (.getfield 41, 3) := by decide +kernel
theorem d_X_accept_41 : decode b_X_accept 41 = .ok (.land, 1) := by decide +kernel
theorem d_X_accept_42 : decode b_X_accept 42 = .ok (.lastore, 1) := by decide +kernel
theorem d_X_accept_43 : decode b_X_accept 43 = .ok (.aload_n 0, 1) := by decide +kernel
theorem d_X_accept_44 : decode b_X_accept 44 = .ok (.getfield 7, 3) := by decide +kernel
theorem d_X_accept_47 : decode b_X_accept 47 = .ok (.iload_n 1, 1) := by decide +kernel
theorem d_X_accept_48 : decode b_X_accept 48 = .ok (.iload_n 2, 1) := by decide +kernel
theorem d_X_accept_49 : decode b_X_accept 49 = .ok (.bipush 8, 2) := by decide +kernel
theorem d_X_accept_51 : decode b_X_accept 51 = .ok (.ishr, 1) := by decide +kernel
theorem d_X_accept_52 : decode b_X_accept 52 = .ok (.iastore, 1) := by decide +kernel
theorem d_X_accept_53 : decode b_X_accept 53 = .ok (.aload_n 0, 1) := by decide +kernel
theorem d_X_accept_54 : decode b_X_accept 54 = .ok (.getfield 13, 3) := by decide +kernel
theorem d_X_accept_57 : decode b_X_accept 57 = .ok (.iload_n 1, 1) := by decide +kernel
theorem d_X_accept_58 : decode b_X_accept 58 = .ok (.iload_n 2, 1) := by decide +kernel
theorem d_X_accept_59 : decode b_X_accept 59 = .ok (.sipush 255, 3) := by decide +kernel
theorem d_X_accept_62 : decode b_X_accept 62 = .ok (.iand, 1) := by decide +kernel
theorem d_X_accept_63 : decode b_X_accept 63 = .ok (.iastore, 1) := by decide +kernel
theorem d_X_accept_64 : decode b_X_accept 64 = .ok (.goto 20, 3) := by decide +kernel
theorem d_X_accept_67 : decode b_X_accept 67 = .ok (.aload_n 0, 1) := by decide +kernel
theorem d_X_accept_68 : decode b_X_accept 68 = .ok (.getfield 16, 3) := by decide +kernel
theorem d_X_accept_71 : decode b_X_accept 71 = .ok (.iload_n 1, 1) := by decide +kernel
theorem d_X_accept_72 : decode b_X_accept 72 = .ok (.aload_n 0, 1) := by decide +kernel
theorem d_X_accept_73 : decode b_X_accept 73 = .ok (.getfield 16, 3) := by decide +kernel
theorem d_X_accept_76 : decode b_X_accept 76 = .ok (.iload_n 1, 1) := by decide +kernel
theorem d_X_accept_77 : decode b_X_accept 77 = .ok (.laload, 1) := by decide +kernel
theorem d_X_accept_78 : decode b_X_accept 78 = .ok (.lconst 1, 1) := by decide +kernel
theorem d_X_accept_79 : decode b_X_accept 79 = .ok (.iload_n 3, 1) := by decide +kernel
theorem d_X_accept_80 : decode b_X_accept 80 = .ok (.ineg, 1) := by decide +kernel
theorem d_X_accept_81 : decode b_X_accept 81 = .ok (.lshl, 1) := by decide +kernel
theorem d_X_accept_82 : decode b_X_accept 82 = .ok (.lor, 1) := by decide +kernel
theorem d_X_accept_83 : decode b_X_accept 83 = .ok (.lastore, 1) := by decide +kernel
theorem d_X_accept_84 : decode b_X_accept 84 = .ok (.aload_n 0, 1) := by decide +kernel
theorem d_X_accept_85 : decode b_X_accept 85 = .ok (.iload_n 1, 1) := by decide +kernel
theorem d_X_accept_86 : decode b_X_accept 86 = .ok (.iload_n 2, 1) := by decide +kernel
theorem d_X_accept_87 : decode b_X_accept 87 = .ok (.invokevirtual 64, 3) := by decide +kernel
theorem d_X_accept_90 : decode b_X_accept 90 = .ok (.istore 4, 2) := by decide +kernel
theorem d_X_accept_92 : decode b_X_accept 92 = .ok (.aload_n 0, 1) := by decide +kernel
theorem d_X_accept_93 : decode b_X_accept 93 = .ok (.getfield 20, 3) := by decide +kernel
theorem d_X_accept_96 : decode b_X_accept 96 = .ok (.iload_n 1, 1) := by decide +kernel
theorem d_X_accept_97 : decode b_X_accept 97 = .ok (.iaload, 1) := by decide +kernel
theorem d_X_accept_98 : decode b_X_accept 98 = .ok (.istore 5, 2) := by decide +kernel
theorem d_X_accept_100 : decode b_X_accept 100 = .ok (.iload 5, 2) := by decide +kernel
theorem d_X_accept_102 : decode b_X_accept 102 = .ok (.iload 4, 2) := by decide +kernel
theorem d_X_accept_104 : decode b_X_accept 104 = .ok (.if_icmp .le 35, 3) := by decide +kernel
theorem d_X_accept_107 : decode b_X_accept 107 = .ok (.aload_n 0, 1) := by decide +kernel
theorem d_X_accept_108 : decode b_X_accept 108 = .ok (.getfield 23, 3) := by decide +kernel
theorem d_X_accept_111 : decode b_X_accept 111 = .ok (.bipush 60, 2) := by decide +kernel
theorem d_X_accept_113 : decode b_X_accept 113 = .ok (.iload_n 1, 1) := by decide +kernel
theorem d_X_accept_114 : decode b_X_accept 114 = .ok (.imul, 1) := by decide +kernel
theorem d_X_accept_115 : decode b_X_accept 115 = .ok (.iload 5, 2) := by decide +kernel
theorem d_X_accept_117 : decode b_X_accept 117 = .ok (.iadd, 1) := by decide +kernel
theorem d_X_accept_118 : decode b_X_accept 118 = .ok (.aload_n 0, 1) := by decide +kernel
theorem d_X_accept_119 : decode b_X_accept 119 = .ok (.getfield 23, 3) := by decide +kernel
theorem d_X_accept_122 : decode b_X_accept 122 = .ok (.bipush 60, 2) := by decide +kernel
theorem d_X_accept_124 : decode b_X_accept 124 = .ok (.iload_n 1, 1) := by decide +kernel
theorem d_X_accept_125 : decode b_X_accept 125 = .ok (.imul, 1) := by decide +kernel
theorem d_X_accept_126 : decode b_X_accept 126 = .ok (.iload 5, 2) := by decide +kernel
theorem d_X_accept_128 : decode b_X_accept 128 = .ok (.iadd, 1) := by decide +kernel
theorem d_X_accept_129 : decode b_X_accept 129 = .ok (.iconst 1, 1) := by decide +kernel
theorem d_X_accept_130 : decode b_X_accept 130 = .ok (.isub, 1) := by decide +kernel
theorem d_X_accept_131 : decode b_X_accept 131 = .ok (.iaload, 1) := by decide +kernel
theorem d_X_accept_132 : decode b_X_accept 132 = .ok (.iastore, 1) := by decide +kernel
theorem d_X_accept_133 : decode b_X_accept 133 = .ok (.iinc 5 (-1), 3) := by decide +kernel
theorem d_X_accept_136 : decode b_X_accept 136 = .ok (.goto (-36), 3) := by decide +kernel
theorem d_X_accept_139 : decode b_X_accept 139 = .ok (.aload_n 0, 1) := by decide +kernel
theorem d_X_accept_140 : decode b_X_accept 140 = .ok (.getfield 23, 3) := by decide +kernel
theorem d_X_accept_143 : decode b_X_accept 143 = .ok (.bipush 60, 2) := by decide +kernel
theorem d_X_accept_145 : decode b_X_accept 145 = .ok (.iload_n 1, 1) := by decide +kernel
theorem d_X_accept_146 : decode b_X_accept 146 = .ok (.imul, 1) := by decide +kernel
theorem d_X_accept_147 : decode b_X_accept 147 = .ok (.iload 4, 2) := by decide +kernel
theorem d_X_accept_149 : decode b_X_accept 149 = .ok (.iadd, 1) := by decide +kernel
theorem d_X_accept_150 : decode b_X_accept 150 = .ok (.iload_n 2, 1) := by decide +kernel
theorem d_X_accept_151 : decode b_X_accept 151 = .ok (.iastore, 1) := by decide +kernel
theorem d_X_accept_152 : decode b_X_accept 152 = .ok (.aload_n 0, 1) := by decide +kernel
theorem d_X_accept_153 : decode b_X_accept 153 = .ok (.getfield 20, 3) := by decide +kernel
theorem d_X_accept_156 : decode b_X_accept 156 = .ok (.iload_n 1, 1) := by decide +kernel
theorem d_X_accept_157 : decode b_X_accept 157 = .ok (.dup2, 1) := by decide +kernel
theorem d_X_accept_158 : decode b_X_accept 158 = .ok (.iaload, 1) := by decide +kernel
theorem d_X_accept_159 : decode b_X_accept 159 = .ok (.iconst 1, 1) := by decide +kernel
theorem d_X_accept_160 : decode b_X_accept 160 = .ok (.iadd, 1) := by decide +kernel
theorem d_X_accept_161 : decode b_X_accept 161 = .ok (.iastore, 1) := by decide +kernel
theorem d_X_accept_162 : decode b_X_accept 162 = .ok (.return_, 1) := by decide +kernel
theorem d_X_place_0 : decode b_X_place 0 = .ok (.iconst 0, 1) := by decide +kernel
theorem d_X_place_1 : decode b_X_place 1 = .ok (.istore_n 3, 1) := by decide +kernel
theorem d_X_place_2 : decode b_X_place 2 = .ok (.aload_n 0, 1) := by decide +kernel
theorem d_X_place_3 : decode b_X_place 3 = .ok (.getfield 20, 3) := by decide +kernel
theorem d_X_place_6 : decode b_X_place 6 = .ok (.iload_n 1, 1) := by decide +kernel
theorem d_X_place_7 : decode b_X_place 7 = .ok (.iaload, 1) := by decide +kernel
theorem d_X_place_8 : decode b_X_place 8 = .ok (.istore 4, 2) := by decide +kernel
theorem d_X_place_10 : decode b_X_place 10 = .ok (.iconst 0, 1) := by decide +kernel
theorem d_X_place_11 : decode b_X_place 11 = .ok (.istore 5, 2) := by decide +kernel
theorem d_X_place_13 : decode b_X_place 13 = .ok (.iload 5, 2) := by decide +kernel
theorem d_X_place_15 : decode b_X_place 15 = .ok (.bipush 8, 2) := by decide +kernel
theorem d_X_place_17 : decode b_X_place 17 = .ok (.if_icmp .ge 51, 3) := by decide +kernel
theorem d_X_place_20 : decode b_X_place 20 = .ok (.iload_n 3, 1) := by decide +kernel
theorem d_X_place_21 : decode b_X_place 21 = .ok (.iload 4, 2) := by decide +kernel
theorem d_X_place_23 : decode b_X_place 23 = .ok (.if_icmp .ge 45, 3) := by decide +kernel
theorem d_X_place_26 : decode b_X_place 26 = .ok (.iload_n 3, 1) := by decide +kernel
theorem d_X_place_27 : decode b_X_place 27 = .ok (.iload 4, 2) := by decide +kernel
theorem d_X_place_29 : decode b_X_place 29 = .ok (.iadd, 1) := by decide +kernel
theorem d_X_place_30 : decode b_X_place 30 = .ok (.iconst 1, 1) := by decide +kernel
theorem d_X_place_31 : decode b_X_place 31 = .ok (.ishr, 1) := by decide +kernel
theorem d_X_place_32 : decode b_X_place 32 = .ok (.istore 6, 2) := by decide +kernel
theorem d_X_place_34 : decode b_X_place 34 = .ok (.aload_n 0, 1) := by decide +kernel
theorem d_X_place_35 : decode b_X_place 35 = .ok (.getfield 23, 3) := by decide +kernel
theorem d_X_place_38 : decode b_X_place 38 = .ok (.bipush 60, 2) := by decide +kernel
theorem d_X_place_40 : decode b_X_place 40 = .ok (.iload_n 1, 1) := by decide +kernel
theorem d_X_place_41 : decode b_X_place 41 = .ok (.imul, 1) := by decide +kernel
theorem d_X_place_42 : decode b_X_place 42 = .ok (.iload 6, 2) := by decide +kernel
theorem d_X_place_44 : decode b_X_place 44 = .ok (.iadd, 1) := by decide +kernel
theorem d_X_place_45 : decode b_X_place 45 = .ok (.iaload, 1) := by decide +kernel
theorem d_X_place_46 : decode b_X_place 46 = .ok (.iload_n 2, 1) := by decide +kernel
theorem d_X_place_47 : decode b_X_place 47 = .ok (.if_icmp .ge 11, 3) := by decide +kernel
theorem d_X_place_50 : decode b_X_place 50 = .ok (.iload 6, 2) := by decide +kernel
theorem d_X_place_52 : decode b_X_place 52 = .ok (.iconst 1, 1) := by decide +kernel
theorem d_X_place_53 : decode b_X_place 53 = .ok (.iadd, 1) := by decide +kernel
theorem d_X_place_54 : decode b_X_place 54 = .ok (.istore_n 3, 1) := by decide +kernel
theorem d_X_place_55 : decode b_X_place 55 = .ok (.goto 7, 3) := by decide +kernel
theorem d_X_place_58 : decode b_X_place 58 = .ok (.iload 6, 2) := by decide +kernel
theorem d_X_place_60 : decode b_X_place 60 = .ok (.istore 4, 2) := by decide +kernel
theorem d_X_place_62 : decode b_X_place 62 = .ok (.iinc 5 1, 3) := by decide +kernel
theorem d_X_place_65 : decode b_X_place 65 = .ok (.goto (-52), 3) := by decide +kernel
theorem d_X_place_68 : decode b_X_place 68 = .ok (.iload_n 3, 1) := by decide +kernel
theorem d_X_place_69 : decode b_X_place 69 = .ok (.ireturn, 1) := by decide +kernel
theorem d_X_burst_0 : decode b_X_burst 0 = .ok (.iload_n 1, 1) := by decide +kernel
theorem d_X_burst_1 : decode b_X_burst 1 = .ok (.invokestatic 45, 3) := by decide +kernel
theorem d_X_burst_4 : decode b_X_burst 4 = .ok (.ifCond .ne 5, 3) := by decide +kernel
theorem d_X_burst_7 : decode b_X_burst 7 = .ok (.iconst (-1), 1) := by decide +kernel
theorem d_X_burst_8 : decode b_X_burst 8 = .ok (.ireturn, 1) := by decide +kernel
theorem d_X_burst_9 : decode b_X_burst 9 = .ok (.iload_n 2, 1) := by decide +kernel
theorem d_X_burst_10 : decode b_X_burst 10 = .ok (.invokestatic 49, 3) := by decide +kernel
theorem d_X_burst_13 : decode b_X_burst 13 = .ok (.ifCond .ne 6, 3) := by decide +kernel
theorem d_X_burst_16 : decode b_X_burst 16 = .ok (.bipush (-2), 2) := by decide +kernel
theorem d_X_burst_18 : decode b_X_burst 18 = .ok (.ireturn, 1) := by decide +kernel
theorem d_X_burst_19 : decode b_X_burst 19 = .ok (.iload_n 3, 1) := by decide +kernel
theorem d_X_burst_20 : decode b_X_burst 20 = .ok (.bipush (-64), 2) := by decide +kernel
theorem d_X_burst_22 : decode b_X_burst 22 = .ok (.if_icmp .lt 9, 3) := by decide +kernel
theorem d_X_burst_25 : decode b_X_burst 25 = .ok (.iload_n 3, 1) := by decide +kernel
theorem d_X_burst_26 : decode b_X_burst 26 = .ok (.bipush 64, 2) := by decide +kernel
theorem d_X_burst_28 : decode b_X_burst 28 = .ok (.if_icmp .le 6, 3) := by decide +kernel
theorem d_X_burst_31 : decode b_X_burst 31 = .ok (.bipush (-3), 2) := by decide +kernel
theorem d_X_burst_33 : decode b_X_burst 33 = .ok (.ireturn, 1) := by decide +kernel
theorem d_X_burst_34 : decode b_X_burst 34 = .ok (.iload 4, 2) := by decide +kernel
theorem d_X_burst_36 : decode b_X_burst 36 = .ok (.iconst 1, 1) := by decide +kernel
theorem d_X_burst_37 : decode b_X_burst 37 = .ok (.if_icmp .lt 10, 3) := by decide +kernel
theorem d_X_burst_40 : decode b_X_burst 40 = .ok (.iload 4, 2) := by decide +kernel
theorem d_X_burst_42 : decode b_X_burst 42 = .ok (.bipush 40, 2) := by decide +kernel
theorem d_X_burst_44 : decode b_X_burst 44 = .ok (.if_icmp .le 6, 3) := by decide +kernel
theorem d_X_burst_47 : decode b_X_burst 47 = .ok (.bipush (-4), 2) := by decide +kernel
theorem d_X_burst_49 : decode b_X_burst 49 = .ok (.ireturn, 1) := by decide +kernel
theorem d_X_burst_50 : decode b_X_burst 50 = .ok (.iconst 0, 1) := by decide +kernel
theorem d_X_burst_51 : decode b_X_burst 51 = .ok (.istore 5, 2) := by decide +kernel
theorem d_X_burst_53 : decode b_X_burst 53 = .ok (.iconst 0, 1) := by decide +kernel
theorem d_X_burst_54 : decode b_X_burst 54 = .ok (.istore 6, 2) := by decide +kernel
theorem d_X_burst_56 : decode b_X_burst 56 = .ok (.iload 6, 2) := by decide +kernel
theorem d_X_burst_58 : decode b_X_burst 58 = .ok (.iload 4, 2) := by decide +kernel
theorem d_X_burst_60 : decode b_X_burst 60 = .ok (.if_icmp .ge 36, 3) := by decide +kernel
theorem d_X_burst_63 : decode b_X_burst 63 = .ok (.aload_n 0, 1) := by decide +kernel
theorem d_X_burst_64 : decode b_X_burst 64 = .ok (.iload_n 1, 1) := by decide +kernel
theorem d_X_burst_65 : decode b_X_burst 65 = .ok (.iload_n 2, 1) := by decide +kernel
theorem d_X_burst_66 : decode b_X_burst 66 = .ok (.iload 6, 2) := by decide +kernel
theorem d_X_burst_68 : decode b_X_burst 68 = .ok (.iload_n 3, 1) := by decide +kernel
theorem d_X_burst_69 : decode b_X_burst 69 = .ok (.imul, 1) := by decide +kernel
theorem d_X_burst_70 : decode b_X_burst 70 = .ok (.iadd, 1) := by decide +kernel
theorem d_X_burst_71 : decode b_X_burst 71 = .ok (.sipush 255, 3) := by decide +kernel
theorem d_X_burst_74 : decode b_X_burst 74 = .ok (.iand, 1) := by decide +kernel
theorem d_X_burst_75 : decode b_X_burst 75 = .ok (.iconst 1, 1) := by decide +kernel
theorem d_X_burst_76 : decode b_X_burst 76 = .ok (.invokevirtual 52, 3) := by decide +kernel
theorem d_X_burst_79 : decode b_X_burst 79 = .ok (.istore 7, 2) := by decide +kernel
theorem d_X_burst_81 : decode b_X_burst 81 = .ok (.iload 7, 2) := by decide +kernel
theorem d_X_burst_83 : decode b_X_burst 83 = .ok (.iconst 1, 1) := by decide +kernel
theorem d_X_burst_84 : decode b_X_burst 84 = .ok (.if_icmp .ne 6, 3) := by decide +kernel
theorem d_X_burst_87 : decode b_X_burst 87 = .ok (.iinc 5 1, 3) := by decide +kernel
theorem d_X_burst_90 : decode b_X_burst 90 = .ok (.iinc 6 1, 3) := by decide +kernel
theorem d_X_burst_93 : decode b_X_burst 93 = .ok (.goto (-37), 3) := by decide +kernel
theorem d_X_burst_96 : decode b_X_burst 96 = .ok (.iload 5, 2) := by decide +kernel
theorem d_X_burst_98 : decode b_X_burst 98 = .ok (.ireturn, 1) := by decide +kernel
theorem d_X_rekey_0 : decode b_X_rekey 0 = .ok (.iload_n 1, 1) := by decide +kernel
theorem d_X_rekey_1 : decode b_X_rekey 1 = .ok (.invokestatic 45, 3) := by decide +kernel
theorem d_X_rekey_4 : decode b_X_rekey 4 = .ok (.ifCond .ne 5, 3) := by decide +kernel
theorem d_X_rekey_7 : decode b_X_rekey 7 = .ok (.iconst (-1), 1) := by decide +kernel
theorem d_X_rekey_8 : decode b_X_rekey 8 = .ok (.ireturn, 1) := by decide +kernel
theorem d_X_rekey_9 : decode b_X_rekey 9 = .ok (.aload_n 0, 1) := by decide +kernel
theorem d_X_rekey_10 : decode b_X_rekey 10 = .ok (.getfield 20, 3) := by decide +kernel
theorem d_X_rekey_13 : decode b_X_rekey 13 = .ok (.iload_n 1, 1) := by decide +kernel
theorem d_X_rekey_14 : decode b_X_rekey 14 = .ok (.iaload, 1) := by decide +kernel
theorem d_X_rekey_15 : decode b_X_rekey 15 = .ok (.istore_n 2, 1) := by decide +kernel
theorem d_X_rekey_16 : decode b_X_rekey 16 = .ok (.aload_n 0, 1) := by decide +kernel
theorem d_X_rekey_17 : decode b_X_rekey 17 = .ok (.getfield 7, 3) := by decide +kernel
theorem d_X_rekey_20 : decode b_X_rekey 20 = .ok (.iload_n 1, 1) := by decide +kernel
theorem d_X_rekey_21 : decode b_X_rekey 21 = .ok (.iconst 0, 1) := by decide +kernel
theorem d_X_rekey_22 : decode b_X_rekey 22 = .ok (.iastore, 1) := by decide +kernel
theorem d_X_rekey_23 : decode b_X_rekey 23 = .ok (.aload_n 0, 1) := by decide +kernel
theorem d_X_rekey_24 : decode b_X_rekey 24 = .ok (.getfield 13, 3) := by decide +kernel
theorem d_X_rekey_27 : decode b_X_rekey 27 = .ok (.iload_n 1, 1) := by decide +kernel
theorem d_X_rekey_28 : decode b_X_rekey 28 = .ok (.iconst 0, 1) := by decide +kernel
theorem d_X_rekey_29 : decode b_X_rekey 29 = .ok (.iastore, 1) := by decide +kernel
theorem d_X_rekey_30 : decode b_X_rekey 30 = .ok (.aload_n 0, 1) := by decide +kernel
theorem d_X_rekey_31 : decode b_X_rekey 31 = .ok (.getfield 16, 3) := by decide +kernel
theorem d_X_rekey_34 : decode b_X_rekey 34 = .ok (.iload_n 1, 1) := by decide +kernel
theorem d_X_rekey_35 : decode b_X_rekey 35 = .ok (.lconst 0, 1) := by decide +kernel
theorem d_X_rekey_36 : decode b_X_rekey 36 = .ok (.lastore, 1) := by decide +kernel
theorem d_X_rekey_37 : decode b_X_rekey 37 = .ok (.aload_n 0, 1) := by decide +kernel
theorem d_X_rekey_38 : decode b_X_rekey 38 = .ok (.getfield 20, 3) := by decide +kernel
theorem d_X_rekey_41 : decode b_X_rekey 41 = .ok (.iload_n 1, 1) := by decide +kernel
theorem d_X_rekey_42 : decode b_X_rekey 42 = .ok (.iconst 0, 1) := by decide +kernel
theorem d_X_rekey_43 : decode b_X_rekey 43 = .ok (.iastore, 1) := by decide +kernel
theorem d_X_rekey_44 : decode b_X_rekey 44 = .ok (.iload_n 2, 1) := by decide +kernel
theorem d_X_rekey_45 : decode b_X_rekey 45 = .ok (.ireturn, 1) := by decide +kernel
theorem d_X_limits_0 : decode b_X_limits 0 = .ok (.iload_n 1, 1) := by decide +kernel
theorem d_X_limits_1 : decode b_X_limits 1 = .ok (.invokestatic 45, 3) := by decide +kernel
theorem d_X_limits_4 : decode b_X_limits 4 = .ok (.ifCond .ne 5, 3) := by decide +kernel
theorem d_X_limits_7 : decode b_X_limits 7 = .ok (.iconst (-1), 1) := by decide +kernel
theorem d_X_limits_8 : decode b_X_limits 8 = .ok (.ireturn, 1) := by decide +kernel
theorem d_X_limits_9 : decode b_X_limits 9 = .ok (.iload_n 3, 1) := by decide +kernel
theorem d_X_limits_10 : decode b_X_limits 10 = .ok (.iconst 1, 1) := by decide +kernel
theorem d_X_limits_11 : decode b_X_limits 11 = .ok (.if_icmp .lt 9, 3) := by decide +kernel
theorem d_X_limits_14 : decode b_X_limits 14 = .ok (.iload_n 3, 1) := by decide +kernel
theorem d_X_limits_15 : decode b_X_limits 15 = .ok (.bipush 60, 2) := by decide +kernel
theorem d_X_limits_17 : decode b_X_limits 17 = .ok (.if_icmp .le 6, 3) := by decide +kernel
theorem d_X_limits_20 : decode b_X_limits 20 = .ok (.bipush (-2), 2) := by decide +kernel
theorem d_X_limits_22 : decode b_X_limits 22 = .ok (.ireturn, 1) := by decide +kernel
theorem d_X_limits_23 : decode b_X_limits 23 = .ok (.iload_n 2, 1) := by decide +kernel
theorem d_X_limits_24 : decode b_X_limits 24 = .ok (.ifCond .lt 8, 3) := by decide +kernel
theorem d_X_limits_27 : decode b_X_limits 27 = .ok (.iload_n 2, 1) := by decide +kernel
theorem d_X_limits_28 : decode b_X_limits 28 = .ok (.iload_n 3, 1) := by decide +kernel
theorem d_X_limits_29 : decode b_X_limits 29 = .ok (.if_icmp .le 6, 3) := by decide +kernel
theorem d_X_limits_32 : decode b_X_limits 32 = .ok (.bipush (-3), 2) := by decide +kernel
theorem d_X_limits_34 : decode b_X_limits 34 = .ok (.ireturn, 1) := by decide +kernel
theorem d_X_limits_35 : decode b_X_limits 35 = .ok (.aload_n 0, 1) := by decide +kernel
theorem d_X_limits_36 : decode b_X_limits 36 = .ok (.getfield 26, 3) := by decide +kernel
theorem d_X_limits_39 : decode b_X_limits 39 = .ok (.iload_n 1, 1) := by decide +kernel
theorem d_X_limits_40 : decode b_X_limits 40 = .ok (.iload_n 2, 1) := by decide +kernel
theorem d_X_limits_41 : decode b_X_limits 41 = .ok (.iastore, 1) := by decide +kernel
theorem d_X_limits_42 : decode b_X_limits 42 = .ok (.aload_n 0, 1) := by decide +kernel
theorem d_X_limits_43 : decode b_X_limits 43 = .ok (.getfield 29, 3) := by decide +kernel
theorem d_X_limits_46 : decode b_X_limits 46 = .ok (.iload_n 1, 1) := by decide +kernel
theorem d_X_limits_47 : decode b_X_limits 47 = .ok (.iload_n 3, 1) := by decide +kernel
theorem d_X_limits_48 : decode b_X_limits 48 = .ok (.iastore, 1) := by decide +kernel
theorem d_X_limits_49 : decode b_X_limits 49 = .ok (.aload_n 0, 1) := by decide +kernel
theorem d_X_limits_50 : decode b_X_limits 50 = .ok (.getfield 20, 3) := by decide +kernel
theorem d_X_limits_53 : decode b_X_limits 53 = .ok (.iload_n 1, 1) := by decide +kernel
theorem d_X_limits_54 : decode b_X_limits 54 = .ok (.iaload, 1) := by decide +kernel
theorem d_X_limits_55 : decode b_X_limits 55 = .ok (.iload_n 3, 1) := by decide +kernel
theorem d_X_limits_56 : decode b_X_limits 56 = .ok (.if_icmp .lt 7, 3) := by decide +kernel
theorem d_X_limits_59 : decode b_X_limits 59 = .ok (.iconst 1, 1) := by decide +kernel
theorem d_X_limits_60 : decode b_X_limits 60 = .ok (.goto 4, 3) := by decide +kernel
theorem d_X_limits_63 : decode b_X_limits 63 = .ok (.iconst 0, 1) := by decide +kernel
theorem d_X_limits_64 : decode b_X_limits 64 = .ok (.ireturn, 1) := by decide +kernel
theorem d_X_top_0 : decode b_X_top 0 = .ok (.iload_n 1, 1) := by decide +kernel
theorem d_X_top_1 : decode b_X_top 1 = .ok (.invokestatic 45, 3) := by decide +kernel
theorem d_X_top_4 : decode b_X_top 4 = .ok (.ifCond .eq 11, 3) := by decide +kernel
theorem d_X_top_7 : decode b_X_top 7 = .ok (.aload_n 0, 1) := by decide +kernel
theorem d_X_top_8 : decode b_X_top 8 = .ok (.iload_n 1, 1) := by decide +kernel
theorem d_X_top_9 : decode b_X_top 9 = .ok (.invokevirtual 56, 3) := by decide +kernel
theorem d_X_top_12 : decode b_X_top 12 = .ok (.goto 4, 3) := by decide +kernel
theorem d_X_top_15 : decode b_X_top 15 = .ok (.iconst (-1), 1) := by decide +kernel
theorem d_X_top_16 : decode b_X_top 16 = .ok (.ireturn, 1) := by decide +kernel
theorem d_X_accepted_0 : decode b_X_accepted 0 = .ok (.iload_n 1, 1) := by decide +kernel
theorem d_X_accepted_1 : decode b_X_accepted 1 = .ok (.invokestatic 45, 3) := by decide +kernel
theorem d_X_accepted_4 : decode b_X_accepted 4 = .ok (.ifCond .eq 12, 3) := by decide +kernel
theorem d_X_accepted_7 : decode b_X_accepted 7 = .ok (.aload_n 0, 1) := by decide +kernel
theorem d_X_accepted_8 : decode b_X_accepted 8 = .ok (.getfield 20, 3) := by decide +kernel
theorem d_X_accepted_11 : decode b_X_accepted 11 = .ok (.iload_n 1, 1) := by decide +kernel
theorem d_X_accepted_12 : decode b_X_accepted 12 = .ok (.iaload, 1) := by decide +kernel
theorem d_X_accepted_13 : decode b_X_accepted 13 = .ok (.goto 4, 3) := by decide +kernel
theorem d_X_accepted_16 : decode b_X_accepted 16 = .ok (.iconst (-1), 1) := by decide +kernel
theorem d_X_accepted_17 : decode b_X_accepted 17 = .ok (.ireturn, 1) := by decide +kernel
theorem d_X_dead_0 : decode b_X_dead 0 = .ok (.iload_n 1, 1) := by decide +kernel
theorem d_X_dead_1 : decode b_X_dead 1 = .ok (.invokestatic 45, 3) := by decide +kernel
theorem d_X_dead_4 : decode b_X_dead 4 = .ok (.ifCond .ne 5, 3) := by decide +kernel
theorem d_X_dead_7 : decode b_X_dead 7 = .ok (.iconst (-1), 1) := by decide +kernel
theorem d_X_dead_8 : decode b_X_dead 8 = .ok (.ireturn, 1) := by decide +kernel
theorem d_X_dead_9 : decode b_X_dead 9 = .ok (.aload_n 0, 1) := by decide +kernel
theorem d_X_dead_10 : decode b_X_dead 10 = .ok (.getfield 20, 3) := by decide +kernel
theorem d_X_dead_13 : decode b_X_dead 13 = .ok (.iload_n 1, 1) := by decide +kernel
theorem d_X_dead_14 : decode b_X_dead 14 = .ok (.iaload, 1) := by decide +kernel
theorem d_X_dead_15 : decode b_X_dead 15 = .ok (.aload_n 0, 1) := by decide +kernel
theorem d_X_dead_16 : decode b_X_dead 16 = .ok (.getfield 29, 3) := by decide +kernel
theorem d_X_dead_19 : decode b_X_dead 19 = .ok (.iload_n 1, 1) := by decide +kernel
theorem d_X_dead_20 : decode b_X_dead 20 = .ok (.iaload, 1) := by decide +kernel
theorem d_X_dead_21 : decode b_X_dead 21 = .ok (.if_icmp .lt 7, 3) := by decide +kernel
theorem d_X_dead_24 : decode b_X_dead 24 = .ok (.iconst 1, 1) := by decide +kernel
theorem d_X_dead_25 : decode b_X_dead 25 = .ok (.goto 4, 3) := by decide +kernel
theorem d_X_dead_28 : decode b_X_dead 28 = .ok (.iconst 0, 1) := by decide +kernel
theorem d_X_dead_29 : decode b_X_dead 29 = .ok (.ireturn, 1) := by decide +kernel
theorem d_X_aging_0 : decode b_X_aging 0 = .ok (.iload_n 1, 1) := by decide +kernel
theorem d_X_aging_1 : decode b_X_aging 1 = .ok (.invokestatic 45, 3) := by decide +kernel
theorem d_X_aging_4 : decode b_X_aging 4 = .ok (.ifCond .ne 5, 3) := by decide +kernel
theorem d_X_aging_7 : decode b_X_aging 7 = .ok (.iconst (-1), 1) := by decide +kernel
theorem d_X_aging_8 : decode b_X_aging 8 = .ok (.ireturn, 1) := by decide +kernel
theorem d_X_aging_9 : decode b_X_aging 9 = .ok (.aload_n 0, 1) := by decide +kernel
theorem d_X_aging_10 : decode b_X_aging 10 = .ok (.getfield 20, 3) := by decide +kernel
theorem d_X_aging_13 : decode b_X_aging 13 = .ok (.iload_n 1, 1) := by decide +kernel
theorem d_X_aging_14 : decode b_X_aging 14 = .ok (.iaload, 1) := by decide +kernel
theorem d_X_aging_15 : decode b_X_aging 15 = .ok (.aload_n 0, 1) := by decide +kernel
theorem d_X_aging_16 : decode b_X_aging 16 = .ok (.getfield 26, 3) := by decide +kernel
theorem d_X_aging_19 : decode b_X_aging 19 = .ok (.iload_n 1, 1) := by decide +kernel
theorem d_X_aging_20 : decode b_X_aging 20 = .ok (.iaload, 1) := by decide +kernel
theorem d_X_aging_21 : decode b_X_aging 21 = .ok (.if_icmp .lt 7, 3) := by decide +kernel
theorem d_X_aging_24 : decode b_X_aging 24 = .ok (.iconst 1, 1) := by decide +kernel
theorem d_X_aging_25 : decode b_X_aging 25 = .ok (.goto 4, 3) := by decide +kernel
theorem d_X_aging_28 : decode b_X_aging 28 = .ok (.iconst 0, 1) := by decide +kernel
theorem d_X_aging_29 : decode b_X_aging 29 = .ok (.ireturn, 1) := by decide +kernel
theorem d_X_count_0 : decode b_X_count 0 = .ok (.iload_n 1, 1) := by decide +kernel
theorem d_X_count_1 : decode b_X_count 1 = .ok (.invokestatic 45, 3) := by decide +kernel
theorem d_X_count_4 : decode b_X_count 4 = .ok (.ifCond .ne 5, 3) := by decide +kernel
theorem d_X_count_7 : decode b_X_count 7 = .ok (.iconst (-1), 1) := by decide +kernel
theorem d_X_count_8 : decode b_X_count 8 = .ok (.ireturn, 1) := by decide +kernel
theorem d_X_count_9 : decode b_X_count 9 = .ok (.iload_n 2, 1) := by decide +kernel
theorem d_X_count_10 : decode b_X_count 10 = .ok (.iconst 1, 1) := by decide +kernel
theorem d_X_count_11 : decode b_X_count 11 = .ok (.if_icmp .lt 22, 3) := by decide +kernel
theorem d_X_count_14 : decode b_X_count 14 = .ok (.iload_n 2, 1) := by decide +kernel
theorem d_X_count_15 : decode b_X_count 15 = .ok (.iconst 5, 1) := by decide +kernel
theorem d_X_count_16 : decode b_X_count 16 = .ok (.if_icmp .gt 17, 3) := by decide +kernel
theorem d_X_count_19 : decode b_X_count 19 = .ok (.aload_n 0, 1) := by decide +kernel
theorem d_X_count_20 : decode b_X_count 20 = .ok (.getfield 32, 3) := by decide +kernel
theorem d_X_count_23 : decode b_X_count 23 = .ok (.bipush 6, 2) := by decide +kernel
theorem d_X_count_25 : decode b_X_count 25 = .ok (.iload_n 1, 1) := by decide +kernel
theorem d_X_count_26 : decode b_X_count 26 = .ok (.imul, 1) := by decide +kernel
theorem d_X_count_27 : decode b_X_count 27 = .ok (.iload_n 2, 1) := by decide +kernel
theorem d_X_count_28 : decode b_X_count 28 = .ok (.iadd, 1) := by decide +kernel
theorem d_X_count_29 : decode b_X_count 29 = .ok (.iaload, 1) := by decide +kernel
theorem d_X_count_30 : decode b_X_count 30 = .ok (.goto 5, 3) := by decide +kernel
theorem d_X_count_33 : decode b_X_count 33 = .ok (.bipush (-2), 2) := by decide +kernel
theorem d_X_count_35 : decode b_X_count 35 = .ok (.ireturn, 1) := by decide +kernel
theorem d_X_numberFor_0 : decode b_X_numberFor 0 = .ok (.iload_n 1, 1) := by decide +kernel
theorem d_X_numberFor_1 : decode b_X_numberFor 1 = .ok (.invokestatic 45, 3) := by decide +kernel
theorem d_X_numberFor_4 : decode b_X_numberFor 4 = .ok (.ifCond .eq 19, 3) := by decide +kernel
theorem d_X_numberFor_7 : decode b_X_numberFor 7 = .ok (.iload_n 2, 1) := by decide +kernel
theorem d_X_numberFor_8 : decode b_X_numberFor 8 = .ok (.invokestatic 49, 3) := by decide +kernel
theorem d_X_numberFor_11 : decode b_X_numberFor 11 = .ok (.ifCond .eq 12, 3) := by decide +kernel
theorem d_X_numberFor_14 : decode b_X_numberFor 14 = .ok (.aload_n 0, 1) := by decide +kernel
theorem d_X_numberFor_15 : decode b_X_numberFor 15 = .ok (.iload_n 1, 1) := by decide +kernel
theorem d_X_numberFor_16 : decode b_X_numberFor 16 = .ok (.iload_n 2, 1) := by decide +kernel
theorem d_X_numberFor_17 : decode b_X_numberFor 17 = .ok (.invokevirtual 60, 3) := by decide +kernel
theorem d_X_numberFor_20 : decode b_X_numberFor 20 = .ok (.goto 6, 3) := by decide +kernel
theorem d_X_numberFor_23 : decode b_X_numberFor 23 = .ok (.sipush (-1000), 3) := by decide +kernel
theorem d_X_numberFor_26 : decode b_X_numberFor 26 = .ok (.ireturn, 1) := by decide +kernel
theorem d_X_has_0 : decode b_X_has 0 = .ok (.iload_n 1, 1) := by decide +kernel
theorem d_X_has_1 : decode b_X_has 1 = .ok (.invokestatic 45, 3) := by decide +kernel
theorem d_X_has_4 : decode b_X_has 4 = .ok (.ifCond .ne 5, 3) := by decide +kernel
theorem d_X_has_7 : decode b_X_has 7 = .ok (.iconst (-1), 1) := by decide +kernel
theorem d_X_has_8 : decode b_X_has 8 = .ok (.ireturn, 1) := by decide +kernel
theorem d_X_has_9 : decode b_X_has 9 = .ok (.aload_n 0, 1) := by decide +kernel
theorem d_X_has_10 : decode b_X_has 10 = .ok (.iload_n 1, 1) := by decide +kernel
theorem d_X_has_11 : decode b_X_has 11 = .ok (.invokevirtual 56, 3) := by decide +kernel
theorem d_X_has_14 : decode b_X_has 14 = .ok (.istore_n 3, 1) := by decide +kernel
theorem d_X_has_15 : decode b_X_has 15 = .ok (.iload_n 2, 1) := by decide +kernel
theorem d_X_has_16 : decode b_X_has 16 = .ok (.iconst 1, 1) := by decide +kernel
theorem d_X_has_17 : decode b_X_has 17 = .ok (.if_icmp .lt 8, 3) := by decide +kernel
theorem d_X_has_20 : decode b_X_has 20 = .ok (.iload_n 2, 1) := by decide +kernel
theorem d_X_has_21 : decode b_X_has 21 = .ok (.iload_n 3, 1) := by decide +kernel
theorem d_X_has_22 : decode b_X_has 22 = .ok (.if_icmp .le 5, 3) := by decide +kernel
theorem d_X_has_25 : decode b_X_has 25 = .ok (.iconst 0, 1) := by decide +kernel
theorem d_X_has_26 : decode b_X_has 26 = .ok (.ireturn, 1) := by decide +kernel
theorem d_X_has_27 : decode b_X_has 27 = .ok (.iload_n 3, 1) := by decide +kernel
theorem d_X_has_28 : decode b_X_has 28 = .ok (.iload_n 2, 1) := by decide +kernel
theorem d_X_has_29 : decode b_X_has 29 = .ok (.isub, 1) := by decide +kernel
theorem d_X_has_30 : decode b_X_has 30 = .ok (.aload_n 0, 1) := by decide +kernel
theorem d_X_has_31 : decode b_X_has 31 = .ok (.getfield 35, 3) := by decide +kernel
theorem d_X_has_34 : decode b_X_has 34 = .ok (.if_icmp .ge 17, 3) := by decide +kernel
theorem d_X_has_37 : decode b_X_has 37 = .ok (.aload_n 0, 1) := by decide +kernel
theorem d_X_has_38 : decode b_X_has 38 = .ok (.getfield 16, 3) := by decide +kernel
theorem d_X_has_41 : decode b_X_has 41 = .ok (.iload_n 1, 1) := by decide +kernel
theorem d_X_has_42 : decode b_X_has 42 = .ok (.laload, 1) := by decide +kernel
theorem d_X_has_43 : decode b_X_has 43 = .ok (.iload_n 3, 1) := by decide +kernel
theorem d_X_has_44 : decode b_X_has 44 = .ok (.iload_n 2, 1) := by decide +kernel
theorem d_X_has_45 : decode b_X_has 45 = .ok (.isub, 1) := by decide +kernel
theorem d_X_has_46 : decode b_X_has 46 = .ok (.lushr, 1) := by decide +kernel
theorem d_X_has_47 : decode b_X_has 47 = .ok (.lconst 1, 1) := by decide +kernel
theorem d_X_has_48 : decode b_X_has 48 = .ok (.land, 1) := by decide +kernel
theorem d_X_has_49 : decode b_X_has 49 = .ok (.l2i, 1) := by decide +kernel
theorem d_X_has_50 : decode b_X_has 50 = .ok (.ireturn, 1) := by decide +kernel
theorem d_X_has_51 : decode b_X_has 51 = .ok (.aload_n 0, 1) := by decide +kernel
theorem d_X_has_52 : decode b_X_has 52 = .ok (.iload_n 1, 1) := by decide +kernel
theorem d_X_has_53 : decode b_X_has 53 = .ok (.iload_n 2, 1) := by decide +kernel
theorem d_X_has_54 : decode b_X_has 54 = .ok (.invokevirtual 64, 3) := by decide +kernel
theorem d_X_has_57 : decode b_X_has 57 = .ok (.istore 4, 2) := by decide +kernel
theorem d_X_has_59 : decode b_X_has 59 = .ok (.iload 4, 2) := by decide +kernel
theorem d_X_has_61 : decode b_X_has 61 = .ok (.aload_n 0, 1) := by decide +kernel
theorem d_X_has_62 : decode b_X_has 62 = .ok (.getfield 20, 3) := by decide +kernel
theorem d_X_has_65 : decode b_X_has 65 = .ok (.iload_n 1, 1) := by decide +kernel
theorem d_X_has_66 : decode b_X_has 66 = .ok (.iaload, 1) := by decide +kernel
theorem d_X_has_67 : decode b_X_has 67 = .ok (.if_icmp .ge 23, 3) := by decide +kernel
theorem d_X_has_70 : decode b_X_has 70 = .ok (.aload_n 0, 1) := by decide +kernel
theorem d_X_has_71 : decode b_X_has 71 = .ok (.getfield 23, 3) := by decide +kernel
theorem d_X_has_74 : decode b_X_has 74 = .ok (.bipush 60, 2) := by decide +kernel
theorem d_X_has_76 : decode b_X_has 76 = .ok (.iload_n 1, 1) := by decide +kernel
theorem d_X_has_77 : decode b_X_has 77 = .ok (.imul, 1) := by decide +kernel
theorem d_X_has_78 : decode b_X_has 78 = .ok (.iload 4, 2) := by decide +kernel
theorem d_X_has_80 : decode b_X_has 80 = .ok (.iadd, 1) := by decide +kernel
theorem d_X_has_81 : decode b_X_has 81 = .ok (.iaload, 1) := by decide +kernel
theorem d_X_has_82 : decode b_X_has 82 = .ok (.iload_n 2, 1) := by decide +kernel
theorem d_X_has_83 : decode b_X_has 83 = .ok (.if_icmp .ne 7, 3) := by decide +kernel
theorem d_X_has_86 : decode b_X_has 86 = .ok (.iconst 1, 1) := by decide +kernel
theorem d_X_has_87 : decode b_X_has 87 = .ok (.goto 4, 3) := by decide +kernel
theorem d_X_has_90 : decode b_X_has 90 = .ok (.iconst 0, 1) := by decide +kernel
theorem d_X_has_91 : decode b_X_has 91 = .ok (.ireturn, 1) := by decide +kernel
theorem d_X_inWindow_0 : decode b_X_inWindow 0 = .ok (.iload_n 1, 1) := by decide +kernel
theorem d_X_inWindow_1 : decode b_X_inWindow 1 = .ok (.invokestatic 45, 3) := by decide +kernel
theorem d_X_inWindow_4 : decode b_X_inWindow 4 = .ok (.ifCond .eq 15, 3) := by decide +kernel
theorem d_X_inWindow_7 : decode b_X_inWindow 7 = .ok (.aload_n 0, 1) := by decide +kernel
theorem d_X_inWindow_8 : decode b_X_inWindow 8 = .ok (.getfield 16, 3) := by decide +kernel
theorem d_X_inWindow_11 : decode b_X_inWindow 11 = .ok (.iload_n 1, 1) := by decide +kernel
theorem d_X_inWindow_12 : decode b_X_inWindow 12 = .ok (.laload, 1) := by decide +kernel
theorem d_X_inWindow_13 : decode b_X_inWindow 13 = .ok (.invokestatic 67, 3) := by decide +kernel
theorem d_X_inWindow_16 : decode b_X_inWindow 16 = .ok (.goto 4, 3) := by decide +kernel
theorem d_X_inWindow_19 : decode b_X_inWindow 19 = .ok (.iconst (-1), 1) := by decide +kernel
theorem d_X_inWindow_20 : decode b_X_inWindow 20 = .ok (.ireturn, 1) := by decide +kernel
theorem d_X_ones_0 : decode b_X_ones 0 = .ok (.lload_n 0, 1) := by decide +kernel
theorem d_X_ones_1 : decode b_X_ones 1 = .ok (.lload_n 0, 1) := by decide +kernel
theorem d_X_ones_2 : decode b_X_ones 2 = .ok (.iconst 1, 1) := by decide +kernel
theorem d_X_ones_3 : decode b_X_ones 3 = .ok (.lushr, 1) := by decide +kernel
theorem d_X_ones_4 : decode b_X_ones 4 = .ok (.ldc2_w 71, 3) := by decide +kernel
theorem d_X_ones_7 : decode b_X_ones 7 = .ok (.land, 1) := by decide +kernel
theorem d_X_ones_8 : decode b_X_ones 8 = .ok (.lsub, 1) := by decide +kernel
theorem d_X_ones_9 : decode b_X_ones 9 = .ok (.lstore_n 2, 1) := by decide +kernel
theorem d_X_ones_10 : decode b_X_ones 10 = .ok (.lload_n 2, 1) := by decide +kernel
theorem d_X_ones_11 : decode b_X_ones 11 = .ok (.ldc2_w 73, 3) := by decide +kernel
theorem d_X_ones_14 : decode b_X_ones 14 = .ok (.land, 1) := by decide +kernel
theorem d_X_ones_15 : decode b_X_ones 15 = .ok (.lload_n 2, 1) := by decide +kernel
theorem d_X_ones_16 : decode b_X_ones 16 = .ok (.iconst 2, 1) := by decide +kernel
theorem d_X_ones_17 : decode b_X_ones 17 = .ok (.lushr, 1) := by decide +kernel
theorem d_X_ones_18 : decode b_X_ones 18 = .ok (.ldc2_w 73, 3) := by decide +kernel
theorem d_X_ones_21 : decode b_X_ones 21 = .ok (.land, 1) := by decide +kernel
theorem d_X_ones_22 : decode b_X_ones 22 = .ok (.ladd, 1) := by decide +kernel
theorem d_X_ones_23 : decode b_X_ones 23 = .ok (.lstore_n 2, 1) := by decide +kernel
theorem d_X_ones_24 : decode b_X_ones 24 = .ok (.lload_n 2, 1) := by decide +kernel
theorem d_X_ones_25 : decode b_X_ones 25 = .ok (.lload_n 2, 1) := by decide +kernel
theorem d_X_ones_26 : decode b_X_ones 26 = .ok (.iconst 4, 1) := by decide +kernel
theorem d_X_ones_27 : decode b_X_ones 27 = .ok (.lushr, 1) := by decide +kernel
theorem d_X_ones_28 : decode b_X_ones 28 = .ok (.ladd, 1) := by decide +kernel
theorem d_X_ones_29 : decode b_X_ones 29 = .ok (.ldc2_w 75, 3) := by decide +kernel
theorem d_X_ones_32 : decode b_X_ones 32 = .ok (.land, 1) := by decide +kernel
theorem d_X_ones_33 : decode b_X_ones 33 = .ok (.lstore_n 2, 1) := by decide +kernel
theorem d_X_ones_34 : decode b_X_ones 34 = .ok (.lload_n 2, 1) := by decide +kernel
theorem d_X_ones_35 : decode b_X_ones 35 = .ok (.ldc2_w 77, 3) := by decide +kernel
theorem d_X_ones_38 : decode b_X_ones 38 = .ok (.lmul, 1) := by decide +kernel
theorem d_X_ones_39 : decode b_X_ones 39 = .ok (.bipush 56, 2) := by decide +kernel
theorem d_X_ones_41 : decode b_X_ones 41 = .ok (.lushr, 1) := by decide +kernel
theorem d_X_ones_42 : decode b_X_ones 42 = .ok (.l2i, 1) := by decide +kernel
theorem d_X_ones_43 : decode b_X_ones 43 = .ok (.ireturn, 1) := by decide +kernel
theorem d_X_lost_0 : decode b_X_lost 0 = .ok (.iload_n 1, 1) := by decide +kernel
theorem d_X_lost_1 : decode b_X_lost 1 = .ok (.invokestatic 45, 3) := by decide +kernel
theorem d_X_lost_4 : decode b_X_lost 4 = .ok (.ifCond .ne 5, 3) := by decide +kernel
theorem d_X_lost_7 : decode b_X_lost 7 = .ok (.iconst (-1), 1) := by decide +kernel
theorem d_X_lost_8 : decode b_X_lost 8 = .ok (.ireturn, 1) := by decide +kernel
theorem d_X_lost_9 : decode b_X_lost 9 = .ok (.aload_n 0, 1) := by decide +kernel
theorem d_X_lost_10 : decode b_X_lost 10 = .ok (.iload_n 1, 1) := by decide +kernel
theorem d_X_lost_11 : decode b_X_lost 11 = .ok (.invokevirtual 56, 3) := by decide +kernel
theorem d_X_lost_14 : decode b_X_lost 14 = .ok (.aload_n 0, 1) := by decide +kernel
theorem d_X_lost_15 : decode b_X_lost 15 = .ok (.getfield 35, 3) := by decide +kernel
theorem d_X_lost_18 : decode b_X_lost 18 = .ok (.isub, 1) := by decide +kernel
theorem d_X_lost_19 : decode b_X_lost 19 = .ok (.istore_n 2, 1) := by decide +kernel
theorem d_X_lost_20 : decode b_X_lost 20 = .ok (.iload_n 2, 1) := by decide +kernel
theorem d_X_lost_21 : decode b_X_lost 21 = .ok (.ifCond .gt 5, 3) := by decide +kernel
theorem d_X_lost_24 : decode b_X_lost 24 = .ok (.iconst 0, 1) := by decide +kernel
theorem d_X_lost_25 : decode b_X_lost 25 = .ok (.ireturn, 1) := by decide +kernel
theorem d_X_lost_26 : decode b_X_lost 26 = .ok (.iload_n 2, 1) := by decide +kernel
theorem d_X_lost_27 : decode b_X_lost 27 = .ok (.aload_n 0, 1) := by decide +kernel
theorem d_X_lost_28 : decode b_X_lost 28 = .ok (.iload_n 1, 1) := by decide +kernel
theorem d_X_lost_29 : decode b_X_lost 29 = .ok (.iload_n 2, 1) := by decide +kernel
theorem d_X_lost_30 : decode b_X_lost 30 = .ok (.iconst 1, 1) := by decide +kernel
theorem d_X_lost_31 : decode b_X_lost 31 = .ok (.iadd, 1) := by decide +kernel
theorem d_X_lost_32 : decode b_X_lost 32 = .ok (.invokevirtual 64, 3) := by decide +kernel
theorem d_X_lost_35 : decode b_X_lost 35 = .ok (.isub, 1) := by decide +kernel
theorem d_X_lost_36 : decode b_X_lost 36 = .ok (.ireturn, 1) := by decide +kernel
theorem d_X_gap_0 : decode b_X_gap 0 = .ok (.iload_n 1, 1) := by decide +kernel
theorem d_X_gap_1 : decode b_X_gap 1 = .ok (.invokestatic 45, 3) := by decide +kernel
theorem d_X_gap_4 : decode b_X_gap 4 = .ok (.ifCond .ne 5, 3) := by decide +kernel
theorem d_X_gap_7 : decode b_X_gap 7 = .ok (.iconst (-1), 1) := by decide +kernel
theorem d_X_gap_8 : decode b_X_gap 8 = .ok (.ireturn, 1) := by decide +kernel
theorem d_X_gap_9 : decode b_X_gap 9 = .ok (.aload_n 0, 1) := by decide +kernel
theorem d_X_gap_10 : decode b_X_gap 10 = .ok (.iload_n 1, 1) := by decide +kernel
theorem d_X_gap_11 : decode b_X_gap 11 = .ok (.invokevirtual 56, 3) := by decide +kernel
theorem d_X_gap_14 : decode b_X_gap 14 = .ok (.istore_n 2, 1) := by decide +kernel
theorem d_X_gap_15 : decode b_X_gap 15 = .ok (.iconst 1, 1) := by decide +kernel
theorem d_X_gap_16 : decode b_X_gap 16 = .ok (.istore_n 3, 1) := by decide +kernel
theorem d_X_gap_17 : decode b_X_gap 17 = .ok (.iload_n 3, 1) := by decide +kernel
theorem d_X_gap_18 : decode b_X_gap 18 = .ok (.aload_n 0, 1) := by decide +kernel
theorem d_X_gap_19 : decode b_X_gap 19 = .ok (.getfield 35, 3) := by decide +kernel
theorem d_X_gap_22 : decode b_X_gap 22 = .ok (.if_icmp .ge 33, 3) := by decide +kernel
theorem d_X_gap_25 : decode b_X_gap 25 = .ok (.iload_n 3, 1) := by decide +kernel
theorem d_X_gap_26 : decode b_X_gap 26 = .ok (.iload_n 2, 1) := by decide +kernel
theorem d_X_gap_27 : decode b_X_gap 27 = .ok (.if_icmp .ge 28, 3) := by decide +kernel
theorem d_X_gap_30 : decode b_X_gap 30 = .ok (.aload_n 0, 1) := by decide +kernel
theorem d_X_gap_31 : decode b_X_gap 31 = .ok (.getfield 16, 3) := by decide +kernel
theorem d_X_gap_34 : decode b_X_gap 34 = .ok (.iload_n 1, 1) := by decide +kernel
theorem d_X_gap_35 : decode b_X_gap 35 = .ok (.laload, 1) := by decide +kernel
theorem d_X_gap_36 : decode b_X_gap 36 = .ok (.iload_n 3, 1) := by decide +kernel
theorem d_X_gap_37 : decode b_X_gap 37 = .ok (.lushr, 1) := by decide +kernel
theorem d_X_gap_38 : decode b_X_gap 38 = .ok (.lconst 1, 1) := by decide +kernel
theorem d_X_gap_39 : decode b_X_gap 39 = .ok (.land, 1) := by decide +kernel
theorem d_X_gap_40 : decode b_X_gap 40 = .ok (.lconst 0, 1) := by decide +kernel
theorem d_X_gap_41 : decode b_X_gap 41 = .ok (.lcmp, 1) := by decide +kernel
theorem d_X_gap_42 : decode b_X_gap 42 = .ok (.ifCond .ne 7, 3) := by decide +kernel
theorem d_X_gap_45 : decode b_X_gap 45 = .ok (.iload_n 2, 1) := by decide +kernel
theorem d_X_gap_46 : decode b_X_gap 46 = .ok (.iload_n 3, 1) := by decide +kernel
theorem d_X_gap_47 : decode b_X_gap 47 = .ok (.isub, 1) := by decide +kernel
theorem d_X_gap_48 : decode b_X_gap 48 = .ok (.ireturn, 1) := by decide +kernel
theorem d_X_gap_49 : decode b_X_gap 49 = .ok (.iinc 3 1, 3) := by decide +kernel
theorem d_X_gap_52 : decode b_X_gap 52 = .ok (.goto (-35), 3) := by decide +kernel
theorem d_X_gap_55 : decode b_X_gap 55 = .ok (.iconst 0, 1) := by decide +kernel
theorem d_X_gap_56 : decode b_X_gap 56 = .ok (.ireturn, 1) := by decide +kernel
end
section
theorem d_M_init_0 : decode b_M_init 0 = .ok (.aload_n 0, 1) := by decide +kernel
theorem d_M_init_1 : decode b_M_init 1 = .ok (.invokespecial 1, 3) := by decide +kernel
theorem d_M_init_4 : decode b_M_init 4 = .ok (.aload_n 0, 1) := by decide +kernel
theorem d_M_init_5 : decode b_M_init 5 = .ok (.sipush 240, 3) := by decide +kernel
theorem d_M_init_8 : decode b_M_init 8 = .ok (.newarray .int, 2) := by decide +kernel
theorem d_M_init_10 : decode b_M_init 10 = .ok (.putfield 7, 3) := by decide +kernel
theorem d_M_init_13 : decode b_M_init 13 = .ok (.aload_n 0, 1) := by decide +kernel
theorem d_M_init_14 : decode b_M_init 14 = .ok (.iconst 4, 1) := by decide +kernel
theorem d_M_init_15 : decode b_M_init 15 = .ok (.newarray .int, 2) := by decide +kernel
theorem d_M_init_17 : decode b_M_init 17 = .ok (.putfield 13, 3) := by decide +kernel
theorem d_M_init_20 : decode b_M_init 20 = .ok (.aload_n 0, 1) := by decide +kernel
theorem d_M_init_21 : decode b_M_init 21 = .ok (.iconst 4, 1) := by decide +kernel
theorem d_M_init_22 : decode b_M_init 22 = .ok (.newarray .int, 2) := by decide +kernel
theorem d_M_init_24 : decode b_M_init 24 = .ok (.putfield 16, 3) := by decide +kernel
theorem d_M_init_27 : decode b_M_init 27 = .ok (.aload_n 0, 1) := by decide +kernel
theorem d_M_init_28 : decode b_M_init 28 = .ok (.iconst 4, 1) := by decide +kernel
theorem d_M_init_29 : decode b_M_init 29 = .ok (.newarray .int, 2) := by decide +kernel
theorem d_M_init_31 : decode b_M_init 31 = .ok (.putfield 19, 3) := by decide +kernel
theorem d_M_init_34 : decode b_M_init 34 = .ok (.aload_n 0, 1) := by decide +kernel
theorem d_M_init_35 : decode b_M_init 35 = .ok (.bipush 32, 2) := by decide +kernel
theorem d_M_init_37 : decode b_M_init 37 = .ok (.newarray .int, 2) := by decide +kernel
theorem d_M_init_39 : decode b_M_init 39 = .ok (.putfield 22, 3) := by decide +kernel
theorem d_M_init_42 : decode b_M_init 42 = .ok (.aload_n 0, 1) := by decide +kernel
theorem d_M_init_43 : decode b_M_init 43 = .ok (.iload_n 1, 1) := by decide +kernel
theorem d_M_init_44 : decode b_M_init 44 = .ok (.iconst 4, 1) := by decide +kernel
theorem d_M_init_45 : decode b_M_init 45 = .ok (.if_icmp .ge 7, 3) := by decide +kernel
theorem d_M_init_48 : decode b_M_init 48 = .ok (.iconst 4, 1) := by decide +kernel
theorem d_M_init_49 : decode b_M_init 49 = .ok (.goto 15, 3) := by decide +kernel
theorem d_M_init_52 : decode b_M_init 52 = .ok (.iload_n 1, 1) := by decide +kernel
theorem d_M_init_53 : decode b_M_init 53 = .ok (.bipush 64, 2) := by decide +kernel
theorem d_M_init_55 : decode b_M_init 55 = .ok (.if_icmp .le 8, 3) := by decide +kernel
theorem d_M_init_58 : decode b_M_init 58 = .ok (.bipush 64, 2) := by decide +kernel
theorem d_M_init_60 : decode b_M_init 60 = .ok (.goto 4, 3) := by decide +kernel
theorem d_M_init_63 : decode b_M_init 63 = .ok (.iload_n 1, 1) := by decide +kernel
theorem d_M_init_64 : decode b_M_init 64 = .ok (.putfield 25, 3) := by decide +kernel
theorem d_M_init_67 : decode b_M_init 67 = .ok (.iconst 0, 1) := by decide +kernel
theorem d_M_init_68 : decode b_M_init 68 = .ok (.istore_n 2, 1) := by decide +kernel
theorem d_M_init_69 : decode b_M_init 69 = .ok (.iload_n 2, 1) := by decide +kernel
theorem d_M_init_70 : decode b_M_init 70 = .ok (.iconst 4, 1) := by decide +kernel
theorem d_M_init_71 : decode b_M_init 71 = .ok (.if_icmp .ge 25, 3) := by decide +kernel
theorem d_M_init_74 : decode b_M_init 74 = .ok (.aload_n 0, 1) := by decide +kernel
theorem d_M_init_75 : decode b_M_init 75 = .ok (.getfield 16, 3) := by decide +kernel
theorem d_M_init_78 : decode b_M_init 78 = .ok (.iload_n 2, 1) := by decide +kernel
theorem d_M_init_79 : decode b_M_init 79 = .ok (.bipush 40, 2) := by decide +kernel
theorem d_M_init_81 : decode b_M_init 81 = .ok (.iastore, 1) := by decide +kernel
theorem d_M_init_82 : decode b_M_init 82 = .ok (.aload_n 0, 1) := by decide +kernel
theorem d_M_init_83 : decode b_M_init 83 = .ok (.getfield 19, 3) := by decide +kernel
theorem d_M_init_86 : decode b_M_init 86 = .ok (.iload_n 2, 1) := by decide +kernel
theorem d_M_init_87 : decode b_M_init 87 = .ok (.bipush 60, 2) := by decide +kernel
theorem d_M_init_89 : decode b_M_init 89 = .ok (.iastore, 1) := by decide +kernel
theorem d_M_init_90 : decode b_M_init 90 = .ok (.iinc 2 1, 3) := by decide +kernel
theorem d_M_init_93 : decode b_M_init 93 = .ok (.goto (-24), 3) := by decide +kernel
theorem d_M_init_96 : decode b_M_init 96 = .ok (.return_, 1) := by decide +kernel
theorem d_M_window_0 : decode b_M_window 0 = .ok (.aload_n 0, 1) := by decide +kernel
theorem d_M_window_1 : decode b_M_window 1 = .ok (.getfield 25, 3) := by decide +kernel
theorem d_M_window_4 : decode b_M_window 4 = .ok (.ireturn, 1) := by decide +kernel
theorem d_M_receive_0 : decode b_M_receive 0 = .ok (.aload_n 0, 1) := by decide +kernel
theorem d_M_receive_1 : decode b_M_receive 1 = .ok (.iload_n 1, 1) := by decide +kernel
theorem d_M_receive_2 : decode b_M_receive 2 = .ok (.invokevirtual 41, 3) := by decide +kernel
theorem d_M_receive_5 : decode b_M_receive 5 = .ok (.ifCond .eq 5, 3) := by decide +kernel
theorem d_M_receive_8 : decode b_M_receive 8 = .ok (.iconst (-1), 1) := by decide +kernel
theorem d_M_receive_9 : decode b_M_receive 9 = .ok (.ireturn, 1) := by decide +kernel
theorem d_M_receive_10 : decode b_M_receive 10 = .ok (.iload_n 2, 1) := by decide +kernel
theorem d_M_receive_11 : decode b_M_receive 11 = .ok (.ifCond .lt 10, 3) := by decide +kernel
theorem d_M_receive_14 : decode b_M_receive 14 = .ok (.iload_n 2, 1) := by decide +kernel
theorem d_M_receive_15 : decode b_M_receive 15 = .ok (.sipush 255, 3) := by decide +kernel
theorem d_M_receive_18 : decode b_M_receive 18 = .ok (.if_icmp .le 6, 3) := by decide +kernel
theorem d_M_receive_21 : decode b_M_receive 21 = .ok (.bipush (-2), 2) := by decide +kernel
theorem d_M_receive_23 : decode b_M_receive 23 = .ok (.ireturn, 1) := by decide +kernel
theorem d_M_receive_24 : decode b_M_receive 24 = .ok (.aload_n 0, 1) := by decide +kernel
theorem d_M_receive_25 : decode b_M_receive 25 = .ok (.iload_n 1, 1) := by decide +kernel
theorem d_M_receive_26 : decode b_M_receive 26 = .ok (.iload_n 2, 1) := by decide +kernel
theorem d_M_receive_27 : decode b_M_receive 27 = .ok (.iload_n 3, 1) := by decide +kernel
theorem d_M_receive_28 : decode b_M_receive 28 = .ok (.invokevirtual 45, 3) := by decide +kernel
theorem d_M_receive_31 : decode b_M_receive 31 = .ok (.istore 4, 2) := by decide +kernel
theorem d_M_receive_33 : decode b_M_receive 33 = .ok (.aload_n 0, 1) := by decide +kernel
theorem d_M_receive_34 : decode b_M_receive 34 = .ok (.getfield 22, 3) := by decide +kernel
theorem d_M_receive_37 : decode b_M_receive 37 = .ok (.bipush 8, 2) := by decide +kernel
theorem d_M_receive_39 : decode b_M_receive 39 = .ok (.iload_n 1, 1) := by decide +kernel
theorem d_M_receive_40 : decode b_M_receive 40 = .ok (.imul, 1) := by decide +kernel
theorem d_M_receive_41 : decode b_M_receive 41 = .ok (.iload 4, 2) := by decide +kernel
theorem d_M_receive_43 : decode b_M_receive 43 = .ok (.iadd, 1) := by decide +kernel
theorem d_M_receive_44 : decode b_M_receive 44 = .ok (.dup2, 1) := by decide +kernel
theorem d_M_receive_45 : decode b_M_receive 45 = .ok (.iaload, 1) := by decide +kernel
theorem d_M_receive_46 : decode b_M_receive 46 = .ok (.iconst 1, 1) := by decide +kernel
theorem d_M_receive_47 : decode b_M_receive 47 = .ok (.iadd, 1) := by decide +kernel
theorem d_M_receive_48 : decode b_M_receive 48 = .ok (.iastore, 1) := by decide +kernel
theorem d_M_receive_49 : decode b_M_receive 49 = .ok (.iload 4, 2) := by decide +kernel
theorem d_M_receive_51 : decode b_M_receive 51 = .ok (.ireturn, 1) := by decide +kernel
theorem d_M_bad_0 : decode b_M_bad 0 = .ok (.iload_n 1, 1) := by decide +kernel
theorem d_M_bad_1 : decode b_M_bad 1 = .ok (.ifCond .lt 8, 3) := by decide +kernel
theorem d_M_bad_4 : decode b_M_bad 4 = .ok (.iload_n 1, 1) := by decide +kernel
theorem d_M_bad_5 : decode b_M_bad 5 = .ok (.iconst 3, 1) := by decide +kernel
theorem d_M_bad_6 : decode b_M_bad 6 = .ok (.if_icmp .le 7, 3) := by decide +kernel
theorem d_M_bad_9 : decode b_M_bad 9 = .ok (.iconst 1, 1) := by decide +kernel
theorem d_M_bad_10 : decode b_M_bad 10 = .ok (.goto 4, 3) := by decide +kernel
theorem d_M_bad_13 : decode b_M_bad 13 = .ok (.iconst 0, 1) := by decide +kernel
theorem d_M_bad_14 : decode b_M_bad 14 = .ok (.ireturn, 1) := by decide +kernel
theorem d_M_verdict_0 : decode b_M_verdict 0 = .ok (.aload_n 0, 1) := by decide +kernel
theorem d_M_verdict_1 : decode b_M_verdict 1 = .ok (.getfield 13, 3) := by decide +kernel
theorem d_M_verdict_4 : decode b_M_verdict 4 = .ok (.iload_n 1, 1) := by decide +kernel
theorem d_M_verdict_5 : decode b_M_verdict 5 = .ok (.iaload, 1) := by decide +kernel
theorem d_M_verdict_6 : decode b_M_verdict 6 = .ok (.aload_n 0, 1) := by decide +kernel
theorem d_M_verdict_7 : decode b_M_verdict 7 = .ok (.getfield 19, 3) := by decide +kernel
theorem d_M_verdict_10 : decode b_M_verdict 10 = .ok (.iload_n 1, 1) := by decide +kernel
theorem d_M_verdict_11 : decode b_M_verdict 11 = .ok (.iaload, 1) := by decide +kernel
theorem d_M_verdict_12 : decode b_M_verdict 12 = .ok (.if_icmp .lt 5, 3) := by decide +kernel
theorem d_M_verdict_15 : decode b_M_verdict 15 = .ok (.iconst 5, 1) := by decide +kernel
theorem d_M_verdict_16 : decode b_M_verdict 16 = .ok (.ireturn, 1) := by decide +kernel
theorem d_M_verdict_17 : decode b_M_verdict 17 = .ok (.aload_n 0, 1) := by decide +kernel
theorem d_M_verdict_18 : decode b_M_verdict 18 = .ok (.iload_n 1, 1) := by decide +kernel
theorem d_M_verdict_19 : decode b_M_verdict 19 = .ok (.iload_n 2, 1) := by decide +kernel
theorem d_M_verdict_20 : decode b_M_verdict 20 = .ok (.invokevirtual 33, 3) := by decide +kernel
theorem d_M_verdict_23 : decode b_M_verdict 23 = .ok (.istore 4, 2) := by decide +kernel
theorem d_M_verdict_25 : decode b_M_verdict 25 = .ok (.iload 4, 2) := by decide +kernel
theorem d_M_verdict_27 : decode b_M_verdict 27 = .ok (.iconst 1, 1) := by decide +kernel
theorem d_M_verdict_28 : decode b_M_verdict 28 = .ok (.if_icmp .ge 5, 3) := by decide +kernel
theorem d_M_verdict_31 : decode b_M_verdict 31 = .ok (.iconst 3, 1) := by decide +kernel
theorem d_M_verdict_32 : decode b_M_verdict 32 = .ok (.ireturn, 1) := by decide +kernel
theorem d_M_verdict_33 : decode b_M_verdict 33 = .ok (.aload_n 0, 1) := by decide +kernel
theorem d_M_verdict_34 : decode b_M_verdict 34 = .ok (.iload_n 1, 1) := by decide +kernel
theorem d_M_verdict_35 : decode b_M_verdict 35 = .ok (.iload 4, 2) := by decide +kernel
theorem d_M_verdict_37 : decode b_M_verdict 37 = .ok (.invokevirtual 37, 3) := by decide +kernel
theorem d_M_verdict_40 : decode b_M_verdict 40 = .ok (.ifCond .eq 5, 3) := by decide +kernel
theorem d_M_verdict_43 : decode b_M_verdict 43 = .ok (.iconst 2, 1) := by decide +kernel
theorem d_M_verdict_44 : decode b_M_verdict 44 = .ok (.ireturn, 1) := by decide +kernel
theorem d_M_verdict_45 : decode b_M_verdict 45 = .ok (.iload_n 3, 1) := by decide +kernel
theorem d_M_verdict_46 : decode b_M_verdict 46 = .ok (.ifCond .ne 5, 3) := by decide +kernel
theorem d_M_verdict_49 : decode b_M_verdict 49 = .ok (.iconst 4, 1) := by decide +kernel
theorem d_M_verdict_50 : decode b_M_verdict 50 = .ok (.ireturn, 1) := by decide +kernel
theorem d_M_verdict_51 : decode b_M_verdict 51 = .ok (.aload_n 0, 1) := by decide +kernel
theorem d_M_verdict_52 : decode b_M_verdict 52 = .ok (.getfield 13, 3) := by decide +kernel
theorem d_M_verdict_55 : decode b_M_verdict 55 = .ok (.iload_n 1, 1) := by decide +kernel
theorem d_M_verdict_56 : decode b_M_verdict 56 = .ok (.iaload, 1) := by decide +kernel
theorem d_M_verdict_57 : decode b_M_verdict 57 = .ok (.istore 5, 2) := by decide +kernel
theorem d_M_verdict_59 : decode b_M_verdict 59 = .ok (.iload 5, 2) := by decide +kernel
theorem d_M_verdict_61 : decode b_M_verdict 61 = .ok (.bipush 60, 2) := by decide +kernel
theorem d_M_verdict_63 : decode b_M_verdict 63 = .ok (.if_icmp .ge 27, 3) := by decide +kernel
theorem d_M_verdict_66 : decode b_M_verdict 66 = .ok (.aload_n 0, 1) := by decide +kernel
theorem d_M_verdict_67 : decode b_M_verdict 67 = .ok (.getfield 7, 3) := by decide +kernel
theorem d_M_verdict_70 : decode b_M_verdict 70 = .ok (.bipush 60, 2) := by decide +kernel
theorem d_M_verdict_72 : decode b_M_verdict 72 = .ok (.iload_n 1, 1) := by decide +kernel
theorem d_M_verdict_73 : decode b_M_verdict 73 = .ok (.imul, 1) := by decide +kernel
theorem d_M_verdict_74 : decode b_M_verdict 74 = .ok (.iload 5, 2) := by decide +kernel
theorem d_M_verdict_76 : decode b_M_verdict 76 = .ok (.iadd, 1) := by decide +kernel
theorem d_M_verdict_77 : decode b_M_verdict 77 = .ok (.iload 4, 2) := by decide +kernel
theorem d_M_verdict_79 : decode b_M_verdict 79 = .ok (.iastore, 1) := by decide +kernel
theorem d_M_verdict_80 : decode b_M_verdict 80 = .ok (.aload_n 0, 1) := by decide +kernel
theorem d_M_verdict_81 : decode b_M_verdict 81 = .ok (.getfield 13, 3) := by decide +kernel
theorem d_M_verdict_84 : decode b_M_verdict 84 = .ok (.iload_n 1, 1) := by decide +kernel
theorem d_M_verdict_85 : decode b_M_verdict 85 = .ok (.iload 5, 2) := by decide +kernel
theorem d_M_verdict_87 : decode b_M_verdict 87 = .ok (.iconst 1, 1) := by decide +kernel
theorem d_M_verdict_88 : decode b_M_verdict 88 = .ok (.iadd, 1) := by decide +kernel
theorem d_M_verdict_89 : decode b_M_verdict 89 = .ok (.iastore, 1) := by decide +kernel
theorem d_M_verdict_90 : decode b_M_verdict 90 = .ok (.iconst 1, 1) := by decide +kernel
theorem d_M_verdict_91 : decode b_M_verdict 91 = .ok (.ireturn, 1) := by decide +kernel
theorem d_M_taken_0 : decode b_M_taken 0 = .ok (.aload_n 0, 1) := by decide +kernel
theorem d_M_taken_1 : decode b_M_taken 1 = .ok (.iload_n 1, 1) := by decide +kernel
theorem d_M_taken_2 : decode b_M_taken 2 = .ok (.invokevirtual 29, 3) := by decide +kernel
theorem d_M_taken_5 : decode b_M_taken 5 = .ok (.aload_n 0, 1) := by decide +kernel
theorem d_M_taken_6 : decode b_M_taken 6 = .ok (.getfield 25, 3) := by decide +kernel
theorem d_M_taken_9 : decode b_M_taken 9 = .ok (.isub, 1) := by decide +kernel
theorem d_M_taken_10 : decode b_M_taken 10 = .ok (.iconst 1, 1) := by decide +kernel
theorem d_M_taken_11 : decode b_M_taken 11 = .ok (.iadd, 1) := by decide +kernel
theorem d_M_taken_12 : decode b_M_taken 12 = .ok (.istore_n 3, 1) := by decide +kernel
theorem d_M_taken_13 : decode b_M_taken 13 = .ok (.iconst 0, 1) := by decide +kernel
theorem d_M_taken_14 : decode b_M_taken 14 = .ok (.istore 4, 2) := by decide +kernel
theorem d_M_taken_16 : decode b_M_taken 16 = .ok (.iload 4, 2) := by decide +kernel
theorem d_M_taken_18 : decode b_M_taken 18 = .ok (.sipush 256, 3) := by decide +kernel
theorem d_M_taken_21 : decode b_M_taken 21 = .ok (.if_icmp .ge 26, 3) := by decide +kernel
theorem d_M_taken_24 : decode b_M_taken 24 = .ok (.iload_n 3, 1) := by decide +kernel
theorem d_M_taken_25 : decode b_M_taken 25 = .ok (.iload 4, 2) := by decide +kernel
theorem d_M_taken_27 : decode b_M_taken 27 = .ok (.iadd, 1) := by decide +kernel
theorem d_M_taken_28 : decode b_M_taken 28 = .ok (.sipush 255, 3) := by decide +kernel
theorem d_M_taken_31 : decode b_M_taken 31 = .ok (.iand, 1) := by decide +kernel
theorem d_M_taken_32 : decode b_M_taken 32 = .ok (.iload_n 2, 1) := by decide +kernel
theorem d_M_taken_33 : decode b_M_taken 33 = .ok (.if_icmp .ne 8, 3) := by decide +kernel
theorem d_M_taken_36 : decode b_M_taken 36 = .ok (.iload_n 3, 1) := by decide +kernel
theorem d_M_taken_37 : decode b_M_taken 37 = .ok (.iload 4, 2) := by decide +kernel
theorem d_M_taken_39 : decode b_M_taken 39 = .ok (.iadd, 1) := by decide +kernel
theorem d_M_taken_40 : decode b_M_taken 40 = .ok (.ireturn, 1) := by decide +kernel
theorem d_M_taken_41 : decode b_M_taken 41 = .ok (.iinc 4 1, 3) := by decide +kernel
theorem d_M_taken_44 : decode b_M_taken 44 = .ok (.goto (-28), 3) := by decide +kernel
theorem d_M_taken_47 : decode b_M_taken 47 = .ok (.iload_n 3, 1) := by decide +kernel
theorem d_M_taken_48 : decode b_M_taken 48 = .ok (.ireturn, 1) := by decide +kernel
theorem d_M_greatest_0 : decode b_M_greatest 0 = .ok (.iconst 0, 1) := by decide +kernel
theorem d_M_greatest_1 : decode b_M_greatest 1 = .ok (.istore_n 2, 1) := by decide +kernel
theorem d_M_greatest_2 : decode b_M_greatest 2 = .ok (.iconst 0, 1) := by decide +kernel
theorem d_M_greatest_3 : decode b_M_greatest 3 = .ok (.istore_n 3, 1) := by decide +kernel
theorem d_M_greatest_4 : decode b_M_greatest 4 = .ok (.iload_n 3, 1) := by decide +kernel
theorem d_M_greatest_5 : decode b_M_greatest 5 = .ok (.aload_n 0, 1) := by decide +kernel
theorem d_M_greatest_6 : decode b_M_greatest 6 = .ok (.getfield 13, 3) := by decide +kernel
theorem d_M_greatest_9 : decode b_M_greatest 9 = .ok (.iload_n 1, 1) := by decide +kernel
theorem d_M_greatest_10 : decode b_M_greatest 10 = .ok (.iaload, 1) := by decide +kernel
theorem d_M_greatest_11 : decode b_M_greatest 11 = .ok (.if_icmp .ge 42, 3) := by decide +kernel
theorem d_M_greatest_14 : decode b_M_greatest 14 = .ok (.iload_n 3, 1) := by decide +kernel
theorem d_M_greatest_15 : decode b_M_greatest 15 = .ok (.bipush 60, 2) := by decide +kernel
theorem d_M_greatest_17 : decode b_M_greatest 17 = .ok (.if_icmp .ge 36, 3) := by decide +kernel
theorem d_M_greatest_20 : decode b_M_greatest 20 = .ok (.aload_n 0, 1) := by decide +kernel
theorem d_M_greatest_21 : decode b_M_greatest 21 = .ok (.getfield 7, 3) := by decide +kernel
theorem d_M_greatest_24 : decode b_M_greatest 24 = .ok (.bipush 60, 2) := by decide +kernel
theorem d_M_greatest_26 : decode b_M_greatest 26 = .ok (.iload_n 1, 1) := by decide +kernel
theorem d_M_greatest_27 : decode b_M_greatest 27 = .ok (.imul, 1) := by decide +kernel
theorem d_M_greatest_28 : decode b_M_greatest 28 = .ok (.iload_n 3, 1) := by decide +kernel
theorem d_M_greatest_29 : decode b_M_greatest 29 = .ok (.iadd, 1) := by decide +kernel
theorem d_M_greatest_30 : decode b_M_greatest 30 = .ok (.iaload, 1) := by decide +kernel
theorem d_M_greatest_31 : decode b_M_greatest 31 = .ok (.iload_n 2, 1) := by decide +kernel
theorem d_M_greatest_32 : decode b_M_greatest 32 = .ok (.if_icmp .le 15, 3) := by decide +kernel
theorem d_M_greatest_35 : decode b_M_greatest 35 = .ok (.aload_n 0, 1) := by decide +kernel
theorem d_M_greatest_36 : decode b_M_greatest 36 = .ok (.getfield 7, 3) := by decide +kernel
theorem d_M_greatest_39 : decode b_M_greatest 39 = .ok (.bipush 60, 2) := by decide +kernel
theorem d_M_greatest_41 : decode b_M_greatest 41 = .ok (.iload_n 1, 1) := by decide +kernel
theorem d_M_greatest_42 : decode b_M_greatest 42 = .ok (.imul, 1) := by decide +kernel
theorem d_M_greatest_43 : decode b_M_greatest 43 = .ok (.iload_n 3, 1) := by decide +kernel
theorem d_M_greatest_44 : decode b_M_greatest 44 = .ok (.iadd, 1) := by decide +kernel
theorem d_M_greatest_45 : decode b_M_greatest 45 = .ok (.iaload, 1) := by decide +kernel
theorem d_M_greatest_46 : decode b_M_greatest 46 = .ok (.istore_n 2, 1) := by decide +kernel
theorem d_M_greatest_47 : decode b_M_greatest 47 = .ok (.iinc 3 1, 3) := by decide +kernel
theorem d_M_greatest_50 : decode b_M_greatest 50 = .ok (.goto (-46), 3) := by decide +kernel
theorem d_M_greatest_53 : decode b_M_greatest 53 = .ok (.iload_n 2, 1) := by decide +kernel
theorem d_M_greatest_54 : decode b_M_greatest 54 = .ok (.ireturn, 1) := by decide +kernel
theorem d_M_holds_0 : decode b_M_holds 0 = .ok (.iconst 0, 1) := by decide +kernel
theorem d_M_holds_1 : decode b_M_holds 1 = .ok (.istore_n 3, 1) := by decide +kernel
theorem d_M_holds_2 : decode b_M_holds 2 = .ok (.iload_n 3, 1) := by decide +kernel
theorem d_M_holds_3 : decode b_M_holds 3 = .ok (.aload_n 0, 1) := by decide +kernel
theorem d_M_holds_4 : decode b_M_holds 4 = .ok (.getfield 13, 3) := by decide +kernel
theorem d_M_holds_7 : decode b_M_holds 7 = .ok (.iload_n 1, 1) := by decide +kernel
theorem d_M_holds_8 : decode b_M_holds 8 = .ok (.iaload, 1) := by decide +kernel
theorem d_M_holds_9 : decode b_M_holds 9 = .ok (.if_icmp .ge 32, 3) := by decide +kernel
theorem d_M_holds_12 : decode b_M_holds 12 = .ok (.iload_n 3, 1) := by decide +kernel
theorem d_M_holds_13 : decode b_M_holds 13 = .ok (.bipush 60, 2) := by decide +kernel
theorem d_M_holds_15 : decode b_M_holds 15 = .ok (.if_icmp .ge 26, 3) := by decide +kernel
theorem d_M_holds_18 : decode b_M_holds 18 = .ok (.aload_n 0, 1) := by decide +kernel
theorem d_M_holds_19 : decode b_M_holds 19 = .ok (.getfield 7, 3) := by decide +kernel
theorem d_M_holds_22 : decode b_M_holds 22 = .ok (.bipush 60, 2) := by decide +kernel
theorem d_M_holds_24 : decode b_M_holds 24 = .ok (.iload_n 1, 1) := by decide +kernel
theorem d_M_holds_25 : decode b_M_holds 25 = .ok (.imul, 1) := by decide +kernel
theorem d_M_holds_26 : decode b_M_holds 26 = .ok (.iload_n 3, 1) := by decide +kernel
theorem d_M_holds_27 : decode b_M_holds 27 = .ok (.iadd, 1) := by decide +kernel
theorem d_M_holds_28 : decode b_M_holds 28 = .ok (.iaload, 1) := by decide +kernel
theorem d_M_holds_29 : decode b_M_holds 29 = .ok (.iload_n 2, 1) := by decide +kernel
theorem d_M_holds_30 : decode b_M_holds 30 = .ok (.if_icmp .ne 5, 3) := by decide +kernel
theorem d_M_holds_33 : decode b_M_holds 33 = .ok (.iconst 1, 1) := by decide +kernel
theorem d_M_holds_34 : decode b_M_holds 34 = .ok (.ireturn, 1) := by decide +kernel
theorem d_M_holds_35 : decode b_M_holds 35 = .ok (.iinc 3 1, 3) := by decide +kernel
theorem d_M_holds_38 : decode b_M_holds 38 = .ok (.goto (-36), 3) := by decide +kernel
theorem d_M_holds_41 : decode b_M_holds 41 = .ok (.iconst 0, 1) := by decide +kernel
theorem d_M_holds_42 : decode b_M_holds 42 = .ok (.ireturn, 1) := by decide +kernel
theorem d_M_burst_0 : decode b_M_burst 0 = .ok (.aload_n 0, 1) := by decide +kernel
theorem d_M_burst_1 : decode b_M_burst 1 = .ok (.iload_n 1, 1) := by decide +kernel
theorem d_M_burst_2 : decode b_M_burst 2 = .ok (.invokevirtual 41, 3) := by decide +kernel
theorem d_M_burst_5 : decode b_M_burst 5 = .ok (.ifCond .eq 5, 3) := by decide +kernel
theorem d_M_burst_8 : decode b_M_burst 8 = .ok (.iconst (-1), 1) := by decide +kernel
theorem d_M_burst_9 : decode b_M_burst 9 = .ok (.ireturn, 1) := by decide +kernel
theorem d_M_burst_10 : decode b_M_burst 10 = .ok (.iload_n 2, 1) := by decide +kernel
theorem d_M_burst_11 : decode b_M_burst 11 = .ok (.ifCond .lt 10, 3) := by decide +kernel
theorem d_M_burst_14 : decode b_M_burst 14 = .ok (.iload_n 2, 1) := by decide +kernel
theorem d_M_burst_15 : decode b_M_burst 15 = .ok (.sipush 255, 3) := by decide +kernel
theorem d_M_burst_18 : decode b_M_burst 18 = .ok (.if_icmp .le 6, 3) := by decide +kernel
theorem d_M_burst_21 : decode b_M_burst 21 = .ok (.bipush (-2), 2) := by decide +kernel
theorem d_M_burst_23 : decode b_M_burst 23 = .ok (.ireturn, 1) := by decide +kernel
theorem d_M_burst_24 : decode b_M_burst 24 = .ok (.iload_n 3, 1) := by decide +kernel
theorem d_M_burst_25 : decode b_M_burst 25 = .ok (.bipush (-64), 2) := by decide +kernel
theorem d_M_burst_27 : decode b_M_burst 27 = .ok (.if_icmp .lt 9, 3) := by decide +kernel
theorem d_M_burst_30 : decode b_M_burst 30 = .ok (.iload_n 3, 1) := by decide +kernel
theorem d_M_burst_31 : decode b_M_burst 31 = .ok (.bipush 64, 2) := by decide +kernel
theorem d_M_burst_33 : decode b_M_burst 33 = .ok (.if_icmp .le 6, 3) := by decide +kernel
theorem d_M_burst_36 : decode b_M_burst 36 = .ok (.bipush (-3), 2) := by decide +kernel
theorem d_M_burst_38 : decode b_M_burst 38 = .ok (.ireturn, 1) := by decide +kernel
theorem d_M_burst_39 : decode b_M_burst 39 = .ok (.iload 4, 2) := by decide +kernel
theorem d_M_burst_41 : decode b_M_burst 41 = .ok (.iconst 1, 1) := by decide +kernel
theorem d_M_burst_42 : decode b_M_burst 42 = .ok (.if_icmp .lt 10, 3) := by decide +kernel
theorem d_M_burst_45 : decode b_M_burst 45 = .ok (.iload 4, 2) := by decide +kernel
theorem d_M_burst_47 : decode b_M_burst 47 = .ok (.bipush 40, 2) := by decide +kernel
theorem d_M_burst_49 : decode b_M_burst 49 = .ok (.if_icmp .le 6, 3) := by decide +kernel
theorem d_M_burst_52 : decode b_M_burst 52 = .ok (.bipush (-4), 2) := by decide +kernel
theorem d_M_burst_54 : decode b_M_burst 54 = .ok (.ireturn, 1) := by decide +kernel
theorem d_M_burst_55 : decode b_M_burst 55 = .ok (.iconst 0, 1) := by decide +kernel
theorem d_M_burst_56 : decode b_M_burst 56 = .ok (.istore 5, 2) := by decide +kernel
theorem d_M_burst_58 : decode b_M_burst 58 = .ok (.iconst 0, 1) := by decide +kernel
theorem d_M_burst_59 : decode b_M_burst 59 = .ok (.istore 6, 2) := by decide +kernel
theorem d_M_burst_61 : decode b_M_burst 61 = .ok (.iload 6, 2) := by decide +kernel
theorem d_M_burst_63 : decode b_M_burst 63 = .ok (.iload 4, 2) := by decide +kernel
theorem d_M_burst_65 : decode b_M_burst 65 = .ok (.if_icmp .ge 36, 3) := by decide +kernel
theorem d_M_burst_68 : decode b_M_burst 68 = .ok (.aload_n 0, 1) := by decide +kernel
theorem d_M_burst_69 : decode b_M_burst 69 = .ok (.iload_n 1, 1) := by decide +kernel
theorem d_M_burst_70 : decode b_M_burst 70 = .ok (.iload_n 2, 1) := by decide +kernel
theorem d_M_burst_71 : decode b_M_burst 71 = .ok (.iload 6, 2) := by decide +kernel
theorem d_M_burst_73 : decode b_M_burst 73 = .ok (.iload_n 3, 1) := by decide +kernel
theorem d_M_burst_74 : decode b_M_burst 74 = .ok (.imul, 1) := by decide +kernel
theorem d_M_burst_75 : decode b_M_burst 75 = .ok (.iadd, 1) := by decide +kernel
theorem d_M_burst_76 : decode b_M_burst 76 = .ok (.sipush 255, 3) := by decide +kernel
theorem d_M_burst_79 : decode b_M_burst 79 = .ok (.iand, 1) := by decide +kernel
theorem d_M_burst_80 : decode b_M_burst 80 = .ok (.iconst 1, 1) := by decide +kernel
theorem d_M_burst_81 : decode b_M_burst 81 = .ok (.invokevirtual 49, 3) := by decide +kernel
theorem d_M_burst_84 : decode b_M_burst 84 = .ok (.istore 7, 2) := by decide +kernel
theorem d_M_burst_86 : decode b_M_burst 86 = .ok (.iload 7, 2) := by decide +kernel
theorem d_M_burst_88 : decode b_M_burst 88 = .ok (.iconst 1, 1) := by decide +kernel
theorem d_M_burst_89 : decode b_M_burst 89 = .ok (.if_icmp .ne 6, 3) := by decide +kernel
theorem d_M_burst_92 : decode b_M_burst 92 = .ok (.iinc 5 1, 3) := by decide +kernel
theorem d_M_burst_95 : decode b_M_burst 95 = .ok (.iinc 6 1, 3) := by decide +kernel
theorem d_M_burst_98 : decode b_M_burst 98 = .ok (.goto (-37), 3) := by decide +kernel
theorem d_M_burst_101 : decode b_M_burst 101 = .ok (.iload 5, 2) := by decide +kernel
theorem d_M_burst_103 : decode b_M_burst 103 = .ok (.ireturn, 1) := by decide +kernel
theorem d_M_rekey_0 : decode b_M_rekey 0 = .ok (.aload_n 0, 1) := by decide +kernel
theorem d_M_rekey_1 : decode b_M_rekey 1 = .ok (.iload_n 1, 1) := by decide +kernel
theorem d_M_rekey_2 : decode b_M_rekey 2 = .ok (.invokevirtual 41, 3) := by decide +kernel
theorem d_M_rekey_5 : decode b_M_rekey 5 = .ok (.ifCond .eq 5, 3) := by decide +kernel
theorem d_M_rekey_8 : decode b_M_rekey 8 = .ok (.iconst (-1), 1) := by decide +kernel
theorem d_M_rekey_9 : decode b_M_rekey 9 = .ok (.ireturn, 1) := by decide +kernel
theorem d_M_rekey_10 : decode b_M_rekey 10 = .ok (.aload_n 0, 1) := by decide +kernel
theorem d_M_rekey_11 : decode b_M_rekey 11 = .ok (.getfield 13, 3) := by decide +kernel
theorem d_M_rekey_14 : decode b_M_rekey 14 = .ok (.iload_n 1, 1) := by decide +kernel
theorem d_M_rekey_15 : decode b_M_rekey 15 = .ok (.iaload, 1) := by decide +kernel
theorem d_M_rekey_16 : decode b_M_rekey 16 = .ok (.istore_n 2, 1) := by decide +kernel
theorem d_M_rekey_17 : decode b_M_rekey 17 = .ok (.aload_n 0, 1) := by decide +kernel
theorem d_M_rekey_18 : decode b_M_rekey 18 = .ok (.getfield 13, 3) := by decide +kernel
theorem d_M_rekey_21 : decode b_M_rekey 21 = .ok (.iload_n 1, 1) := by decide +kernel
theorem d_M_rekey_22 : decode b_M_rekey 22 = .ok (.iconst 0, 1) := by decide +kernel
theorem d_M_rekey_23 : decode b_M_rekey 23 = .ok (.iastore, 1) := by decide +kernel
theorem d_M_rekey_24 : decode b_M_rekey 24 = .ok (.iload_n 2, 1) := by decide +kernel
theorem d_M_rekey_25 : decode b_M_rekey 25 = .ok (.ireturn, 1) := by decide +kernel
theorem d_M_limits_0 : decode b_M_limits 0 = .ok (.aload_n 0, 1) := by decide +kernel
theorem d_M_limits_1 : decode b_M_limits 1 = .ok (.iload_n 1, 1) := by decide +kernel
theorem d_M_limits_2 : decode b_M_limits 2 = .ok (.invokevirtual 41, 3) := by decide +kernel
theorem d_M_limits_5 : decode b_M_limits 5 = .ok (.ifCond .eq 5, 3) := by decide +kernel
theorem d_M_limits_8 : decode b_M_limits 8 = .ok (.iconst (-1), 1) := by decide +kernel
theorem d_M_limits_9 : decode b_M_limits 9 = .ok (.ireturn, 1) := by decide +kernel
theorem d_M_limits_10 : decode b_M_limits 10 = .ok (.iload_n 3, 1) := by decide +kernel
theorem d_M_limits_11 : decode b_M_limits 11 = .ok (.iconst 1, 1) := by decide +kernel
theorem d_M_limits_12 : decode b_M_limits 12 = .ok (.if_icmp .lt 9, 3) := by decide +kernel
theorem d_M_limits_15 : decode b_M_limits 15 = .ok (.iload_n 3, 1) := by decide +kernel
theorem d_M_limits_16 : decode b_M_limits 16 = .ok (.bipush 60, 2) := by decide +kernel
theorem d_M_limits_18 : decode b_M_limits 18 = .ok (.if_icmp .le 6, 3) := by decide +kernel
theorem d_M_limits_21 : decode b_M_limits 21 = .ok (.bipush (-2), 2) := by decide +kernel
theorem d_M_limits_23 : decode b_M_limits 23 = .ok (.ireturn, 1) := by decide +kernel
theorem d_M_limits_24 : decode b_M_limits 24 = .ok (.iload_n 2, 1) := by decide +kernel
theorem d_M_limits_25 : decode b_M_limits 25 = .ok (.ifCond .lt 8, 3) := by decide +kernel
theorem d_M_limits_28 : decode b_M_limits 28 = .ok (.iload_n 2, 1) := by decide +kernel
theorem d_M_limits_29 : decode b_M_limits 29 = .ok (.iload_n 3, 1) := by decide +kernel
theorem d_M_limits_30 : decode b_M_limits 30 = .ok (.if_icmp .le 6, 3) := by decide +kernel
theorem d_M_limits_33 : decode b_M_limits 33 = .ok (.bipush (-3), 2) := by decide +kernel
theorem d_M_limits_35 : decode b_M_limits 35 = .ok (.ireturn, 1) := by decide +kernel
theorem d_M_limits_36 : decode b_M_limits 36 = .ok (.aload_n 0, 1) := by decide +kernel
theorem d_M_limits_37 : decode b_M_limits 37 = .ok (.getfield 16, 3) := by decide +kernel
theorem d_M_limits_40 : decode b_M_limits 40 = .ok (.iload_n 1, 1) := by decide +kernel
theorem d_M_limits_41 : decode b_M_limits 41 = .ok (.iload_n 2, 1) := by decide +kernel
theorem d_M_limits_42 : decode b_M_limits 42 = .ok (.iastore, 1) := by decide +kernel
theorem d_M_limits_43 : decode b_M_limits 43 = .ok (.aload_n 0, 1) := by decide +kernel
theorem d_M_limits_44 : decode b_M_limits 44 = .ok (.getfield 19, 3) := by decide +kernel
theorem d_M_limits_47 : decode b_M_limits 47 = .ok (.iload_n 1, 1) := by decide +kernel
theorem d_M_limits_48 : decode b_M_limits 48 = .ok (.iload_n 3, 1) := by decide +kernel
theorem d_M_limits_49 : decode b_M_limits 49 = .ok (.iastore, 1) := by decide +kernel
theorem d_M_limits_50 : decode b_M_limits 50 = .ok (.aload_n 0, 1) := by decide +kernel
theorem d_M_limits_51 : decode b_M_limits 51 = .ok (.iload_n 1, 1) := by decide +kernel
theorem d_M_limits_52 : decode b_M_limits 52 = .ok (.invokevirtual 52, 3) := by decide +kernel
theorem d_M_limits_55 : decode b_M_limits 55 = .ok (.ireturn, 1) := by decide +kernel
theorem d_M_dead_0 : decode b_M_dead 0 = .ok (.aload_n 0, 1) := by decide +kernel
theorem d_M_dead_1 : decode b_M_dead 1 = .ok (.iload_n 1, 1) := by decide +kernel
theorem d_M_dead_2 : decode b_M_dead 2 = .ok (.invokevirtual 41, 3) := by decide +kernel
theorem d_M_dead_5 : decode b_M_dead 5 = .ok (.ifCond .eq 5, 3) := by decide +kernel
theorem d_M_dead_8 : decode b_M_dead 8 = .ok (.iconst (-1), 1) := by decide +kernel
theorem d_M_dead_9 : decode b_M_dead 9 = .ok (.ireturn, 1) := by decide +kernel
theorem d_M_dead_10 : decode b_M_dead 10 = .ok (.aload_n 0, 1) := by decide +kernel
theorem d_M_dead_11 : decode b_M_dead 11 = .ok (.getfield 13, 3) := by decide +kernel
theorem d_M_dead_14 : decode b_M_dead 14 = .ok (.iload_n 1, 1) := by decide +kernel
theorem d_M_dead_15 : decode b_M_dead 15 = .ok (.iaload, 1) := by decide +kernel
theorem d_M_dead_16 : decode b_M_dead 16 = .ok (.aload_n 0, 1) := by decide +kernel
theorem d_M_dead_17 : decode b_M_dead 17 = .ok (.getfield 19, 3) := by decide +kernel
theorem d_M_dead_20 : decode b_M_dead 20 = .ok (.iload_n 1, 1) := by decide +kernel
theorem d_M_dead_21 : decode b_M_dead 21 = .ok (.iaload, 1) := by decide +kernel
theorem d_M_dead_22 : decode b_M_dead 22 = .ok (.if_icmp .lt 7, 3) := by decide +kernel
theorem d_M_dead_25 : decode b_M_dead 25 = .ok (.iconst 1, 1) := by decide +kernel
theorem d_M_dead_26 : decode b_M_dead 26 = .ok (.goto 4, 3) := by decide +kernel
theorem d_M_dead_29 : decode b_M_dead 29 = .ok (.iconst 0, 1) := by decide +kernel
theorem d_M_dead_30 : decode b_M_dead 30 = .ok (.ireturn, 1) := by decide +kernel
theorem d_M_top_0 : decode b_M_top 0 = .ok (.aload_n 0, 1) := by decide +kernel
theorem d_M_top_1 : decode b_M_top 1 = .ok (.iload_n 1, 1) := by decide +kernel
theorem d_M_top_2 : decode b_M_top 2 = .ok (.invokevirtual 41, 3) := by decide +kernel
theorem d_M_top_5 : decode b_M_top 5 = .ok (.ifCond .eq 7, 3) := by decide +kernel
theorem d_M_top_8 : decode b_M_top 8 = .ok (.iconst (-1), 1) := by decide +kernel
theorem d_M_top_9 : decode b_M_top 9 = .ok (.goto 8, 3) := by decide +kernel
theorem d_M_top_12 : decode b_M_top 12 = .ok (.aload_n 0, 1) := by decide +kernel
theorem d_M_top_13 : decode b_M_top 13 = .ok (.iload_n 1, 1) := by decide +kernel
theorem d_M_top_14 : decode b_M_top 14 = .ok (.invokevirtual 29, 3) := by decide +kernel
theorem d_M_top_17 : decode b_M_top 17 = .ok (.ireturn, 1) := by decide +kernel
theorem d_M_accepted_0 : decode b_M_accepted 0 = .ok (.aload_n 0, 1) := by decide +kernel
theorem d_M_accepted_1 : decode b_M_accepted 1 = .ok (.iload_n 1, 1) := by decide +kernel
theorem d_M_accepted_2 : decode b_M_accepted 2 = .ok (.invokevirtual 41, 3) := by decide +kernel
theorem d_M_accepted_5 : decode b_M_accepted 5 = .ok (.ifCond .eq 7, 3) := by decide +kernel
theorem d_M_accepted_8 : decode b_M_accepted 8 = .ok (.iconst (-1), 1) := by decide +kernel
theorem d_M_accepted_9 : decode b_M_accepted 9 = .ok (.goto 9, 3) := by decide +kernel
theorem d_M_accepted_12 : decode b_M_accepted 12 = .ok (.aload_n 0, 1) := by decide +kernel
theorem d_M_accepted_13 : decode b_M_accepted 13 = .ok (.getfield 13, 3) := by decide +kernel
theorem d_M_accepted_16 : decode b_M_accepted 16 = .ok (.iload_n 1, 1) := by decide +kernel
theorem d_M_accepted_17 : decode b_M_accepted 17 = .ok (.iaload, 1) := by decide +kernel
theorem d_M_accepted_18 : decode b_M_accepted 18 = .ok (.ireturn, 1) := by decide +kernel
theorem d_M_aging_0 : decode b_M_aging 0 = .ok (.aload_n 0, 1) := by decide +kernel
theorem d_M_aging_1 : decode b_M_aging 1 = .ok (.iload_n 1, 1) := by decide +kernel
theorem d_M_aging_2 : decode b_M_aging 2 = .ok (.invokevirtual 41, 3) := by decide +kernel
theorem d_M_aging_5 : decode b_M_aging 5 = .ok (.ifCond .eq 5, 3) := by decide +kernel
theorem d_M_aging_8 : decode b_M_aging 8 = .ok (.iconst (-1), 1) := by decide +kernel
theorem d_M_aging_9 : decode b_M_aging 9 = .ok (.ireturn, 1) := by decide +kernel
theorem d_M_aging_10 : decode b_M_aging 10 = .ok (.aload_n 0, 1) := by decide +kernel
theorem d_M_aging_11 : decode b_M_aging 11 = .ok (.getfield 13, 3) := by decide +kernel
theorem d_M_aging_14 : decode b_M_aging 14 = .ok (.iload_n 1, 1) := by decide +kernel
theorem d_M_aging_15 : decode b_M_aging 15 = .ok (.iaload, 1) := by decide +kernel
theorem d_M_aging_16 : decode b_M_aging 16 = .ok (.aload_n 0, 1) := by decide +kernel
theorem d_M_aging_17 : decode b_M_aging 17 = .ok (.getfield 16, 3) := by decide +kernel
theorem d_M_aging_20 : decode b_M_aging 20 = .ok (.iload_n 1, 1) := by decide +kernel
theorem d_M_aging_21 : decode b_M_aging 21 = .ok (.iaload, 1) := by decide +kernel
theorem d_M_aging_22 : decode b_M_aging 22 = .ok (.if_icmp .lt 7, 3) := by decide +kernel
theorem d_M_aging_25 : decode b_M_aging 25 = .ok (.iconst 1, 1) := by decide +kernel
theorem d_M_aging_26 : decode b_M_aging 26 = .ok (.goto 4, 3) := by decide +kernel
theorem d_M_aging_29 : decode b_M_aging 29 = .ok (.iconst 0, 1) := by decide +kernel
theorem d_M_aging_30 : decode b_M_aging 30 = .ok (.ireturn, 1) := by decide +kernel
theorem d_M_count_0 : decode b_M_count 0 = .ok (.aload_n 0, 1) := by decide +kernel
theorem d_M_count_1 : decode b_M_count 1 = .ok (.iload_n 1, 1) := by decide +kernel
theorem d_M_count_2 : decode b_M_count 2 = .ok (.invokevirtual 41, 3) := by decide +kernel
theorem d_M_count_5 : decode b_M_count 5 = .ok (.ifCond .eq 5, 3) := by decide +kernel
theorem d_M_count_8 : decode b_M_count 8 = .ok (.iconst (-1), 1) := by decide +kernel
theorem d_M_count_9 : decode b_M_count 9 = .ok (.ireturn, 1) := by decide +kernel
theorem d_M_count_10 : decode b_M_count 10 = .ok (.iload_n 2, 1) := by decide +kernel
theorem d_M_count_11 : decode b_M_count 11 = .ok (.iconst 1, 1) := by decide +kernel
theorem d_M_count_12 : decode b_M_count 12 = .ok (.if_icmp .lt 8, 3) := by decide +kernel
theorem d_M_count_15 : decode b_M_count 15 = .ok (.iload_n 2, 1) := by decide +kernel
theorem d_M_count_16 : decode b_M_count 16 = .ok (.iconst 5, 1) := by decide +kernel
theorem d_M_count_17 : decode b_M_count 17 = .ok (.if_icmp .le 6, 3) := by decide +kernel
theorem d_M_count_20 : decode b_M_count 20 = .ok (.bipush (-2), 2) := by decide +kernel
theorem d_M_count_22 : decode b_M_count 22 = .ok (.ireturn, 1) := by decide +kernel
theorem d_M_count_23 : decode b_M_count 23 = .ok (.aload_n 0, 1) := by decide +kernel
theorem d_M_count_24 : decode b_M_count 24 = .ok (.getfield 22, 3) := by decide +kernel
theorem d_M_count_27 : decode b_M_count 27 = .ok (.bipush 8, 2) := by decide +kernel
theorem d_M_count_29 : decode b_M_count 29 = .ok (.iload_n 1, 1) := by decide +kernel
theorem d_M_count_30 : decode b_M_count 30 = .ok (.imul, 1) := by decide +kernel
theorem d_M_count_31 : decode b_M_count 31 = .ok (.iload_n 2, 1) := by decide +kernel
theorem d_M_count_32 : decode b_M_count 32 = .ok (.iadd, 1) := by decide +kernel
theorem d_M_count_33 : decode b_M_count 33 = .ok (.iaload, 1) := by decide +kernel
theorem d_M_count_34 : decode b_M_count 34 = .ok (.ireturn, 1) := by decide +kernel
theorem d_M_numberFor_0 : decode b_M_numberFor 0 = .ok (.aload_n 0, 1) := by decide +kernel
theorem d_M_numberFor_1 : decode b_M_numberFor 1 = .ok (.iload_n 1, 1) := by decide +kernel
theorem d_M_numberFor_2 : decode b_M_numberFor 2 = .ok (.invokevirtual 41, 3) := by decide +kernel
theorem d_M_numberFor_5 : decode b_M_numberFor 5 = .ok (.ifCond .ne 14, 3) := by decide +kernel
theorem d_M_numberFor_8 : decode b_M_numberFor 8 = .ok (.iload_n 2, 1) := by decide +kernel
theorem d_M_numberFor_9 : decode b_M_numberFor 9 = .ok (.ifCond .lt 10, 3) := by decide +kernel
theorem d_M_numberFor_12 : decode b_M_numberFor 12 = .ok (.iload_n 2, 1) := by decide +kernel
theorem d_M_numberFor_13 : decode b_M_numberFor 13 = .ok (.sipush 255, 3) := by decide +kernel
theorem d_M_numberFor_16 : decode b_M_numberFor 16 = .ok (.if_icmp .le 7, 3) := by decide +kernel
theorem d_M_numberFor_19 : decode b_M_numberFor 19 = .ok (.sipush (-1000), 3) := by decide +kernel
theorem d_M_numberFor_22 : decode b_M_numberFor 22 = .ok (.ireturn, 1) := by decide +kernel
theorem d_M_numberFor_23 : decode b_M_numberFor 23 = .ok (.aload_n 0, 1) := by decide +kernel
theorem d_M_numberFor_24 : decode b_M_numberFor 24 = .ok (.iload_n 1, 1) := by decide +kernel
theorem d_M_numberFor_25 : decode b_M_numberFor 25 = .ok (.iload_n 2, 1) := by decide +kernel
theorem d_M_numberFor_26 : decode b_M_numberFor 26 = .ok (.invokevirtual 33, 3) := by decide +kernel
theorem d_M_numberFor_29 : decode b_M_numberFor 29 = .ok (.ireturn, 1) := by decide +kernel
theorem d_M_has_0 : decode b_M_has 0 = .ok (.aload_n 0, 1) := by decide +kernel
theorem d_M_has_1 : decode b_M_has 1 = .ok (.iload_n 1, 1) := by decide +kernel
theorem d_M_has_2 : decode b_M_has 2 = .ok (.invokevirtual 41, 3) := by decide +kernel
theorem d_M_has_5 : decode b_M_has 5 = .ok (.ifCond .eq 5, 3) := by decide +kernel
theorem d_M_has_8 : decode b_M_has 8 = .ok (.iconst (-1), 1) := by decide +kernel
theorem d_M_has_9 : decode b_M_has 9 = .ok (.ireturn, 1) := by decide +kernel
theorem d_M_has_10 : decode b_M_has 10 = .ok (.aload_n 0, 1) := by decide +kernel
theorem d_M_has_11 : decode b_M_has 11 = .ok (.iload_n 1, 1) := by decide +kernel
theorem d_M_has_12 : decode b_M_has 12 = .ok (.iload_n 2, 1) := by decide +kernel
theorem d_M_has_13 : decode b_M_has 13 = .ok (.invokevirtual 37, 3) := by decide +kernel
theorem d_M_has_16 : decode b_M_has 16 = .ok (.ifCond .eq 7, 3) := by decide +kernel
theorem d_M_has_19 : decode b_M_has 19 = .ok (.iconst 1, 1) := by decide +kernel
theorem d_M_has_20 : decode b_M_has 20 = .ok (.goto 4, 3) := by decide +kernel
theorem d_M_has_23 : decode b_M_has 23 = .ok (.iconst 0, 1) := by decide +kernel
theorem d_M_has_24 : decode b_M_has 24 = .ok (.ireturn, 1) := by decide +kernel
theorem d_M_inWindow_0 : decode b_M_inWindow 0 = .ok (.aload_n 0, 1) := by decide +kernel
theorem d_M_inWindow_1 : decode b_M_inWindow 1 = .ok (.iload_n 1, 1) := by decide +kernel
theorem d_M_inWindow_2 : decode b_M_inWindow 2 = .ok (.invokevirtual 41, 3) := by decide +kernel
theorem d_M_inWindow_5 : decode b_M_inWindow 5 = .ok (.ifCond .eq 5, 3) := by decide +kernel
theorem d_M_inWindow_8 : decode b_M_inWindow 8 = .ok (.iconst (-1), 1) := by decide +kernel
theorem d_M_inWindow_9 : decode b_M_inWindow 9 = .ok (.ireturn, 1) := by decide +kernel
theorem d_M_inWindow_10 : decode b_M_inWindow 10 = .ok (.aload_n 0, 1) := by decide +kernel
theorem d_M_inWindow_11 : decode b_M_inWindow 11 = .ok (.iload_n 1, 1) := by decide +kernel
theorem d_M_inWindow_12 : decode b_M_inWindow 12 = .ok (.invokevirtual 29, 3) := by decide +kernel
theorem d_M_inWindow_15 : decode b_M_inWindow 15 = .ok (.istore_n 2, 1) := by decide +kernel
theorem d_M_inWindow_16 : decode b_M_inWindow 16 = .ok (.iconst 0, 1) := by decide +kernel
theorem d_M_inWindow_17 : decode b_M_inWindow 17 = .ok (.istore_n 3, 1) := by decide +kernel
theorem d_M_inWindow_18 : decode b_M_inWindow 18 = .ok (.iload_n 2, 1) := by decide +kernel
theorem d_M_inWindow_19 : decode b_M_inWindow 19 = .ok (.aload_n 0, 1) := by decide +kernel
theorem d_M_inWindow_20 : decode b_M_inWindow 20 = .ok (.getfield 25, 3) := by decide +kernel
theorem d_M_inWindow_23 : decode b_M_inWindow 23 = .ok (.isub, 1) := by decide +kernel
theorem d_M_inWindow_24 : decode b_M_inWindow 24 = .ok (.iconst 1, 1) := by decide +kernel
theorem d_M_inWindow_25 : decode b_M_inWindow 25 = .ok (.iadd, 1) := by decide +kernel
theorem d_M_inWindow_26 : decode b_M_inWindow 26 = .ok (.istore 4, 2) := by decide +kernel
theorem d_M_inWindow_28 : decode b_M_inWindow 28 = .ok (.iload 4, 2) := by decide +kernel
theorem d_M_inWindow_30 : decode b_M_inWindow 30 = .ok (.iload_n 2, 1) := by decide +kernel
theorem d_M_inWindow_31 : decode b_M_inWindow 31 = .ok (.if_icmp .gt 22, 3) := by decide +kernel
theorem d_M_inWindow_34 : decode b_M_inWindow 34 = .ok (.aload_n 0, 1) := by decide +kernel
theorem d_M_inWindow_35 : decode b_M_inWindow 35 = .ok (.iload_n 1, 1) := by decide +kernel
theorem d_M_inWindow_36 : decode b_M_inWindow 36 = .ok (.iload 4, 2) := by decide +kernel
theorem d_M_inWindow_38 : decode b_M_inWindow 38 = .ok (.invokevirtual 37, 3) := by decide +kernel
theorem d_M_inWindow_41 : decode b_M_inWindow 41 = .ok (.ifCond .eq 6, 3) := by decide +kernel
theorem d_M_inWindow_44 : decode b_M_inWindow 44 = .ok (.iinc 3 1, 3) := by decide +kernel
theorem d_M_inWindow_47 : decode b_M_inWindow 47 = .ok (.iinc 4 1, 3) := by decide +kernel
theorem d_M_inWindow_50 : decode b_M_inWindow 50 = .ok (.goto (-22), 3) := by decide +kernel
theorem d_M_inWindow_53 : decode b_M_inWindow 53 = .ok (.iload_n 3, 1) := by decide +kernel
theorem d_M_inWindow_54 : decode b_M_inWindow 54 = .ok (.ireturn, 1) := by decide +kernel
theorem d_M_lost_0 : decode b_M_lost 0 = .ok (.aload_n 0, 1) := by decide +kernel
theorem d_M_lost_1 : decode b_M_lost 1 = .ok (.iload_n 1, 1) := by decide +kernel
theorem d_M_lost_2 : decode b_M_lost 2 = .ok (.invokevirtual 41, 3) := by decide +kernel
theorem d_M_lost_5 : decode b_M_lost 5 = .ok (.ifCond .eq 5, 3) := by decide +kernel
theorem d_M_lost_8 : decode b_M_lost 8 = .ok (.iconst (-1), 1) := by decide +kernel
theorem d_M_lost_9 : decode b_M_lost 9 = .ok (.ireturn, 1) := by decide +kernel
theorem d_M_lost_10 : decode b_M_lost 10 = .ok (.aload_n 0, 1) := by decide +kernel
theorem d_M_lost_11 : decode b_M_lost 11 = .ok (.iload_n 1, 1) := by decide +kernel
theorem d_M_lost_12 : decode b_M_lost 12 = .ok (.invokevirtual 29, 3) := by decide +kernel
theorem d_M_lost_15 : decode b_M_lost 15 = .ok (.aload_n 0, 1) := by decide +kernel
theorem d_M_lost_16 : decode b_M_lost 16 = .ok (.getfield 25, 3) := by decide +kernel
theorem d_M_lost_19 : decode b_M_lost 19 = .ok (.isub, 1) := by decide +kernel
theorem d_M_lost_20 : decode b_M_lost 20 = .ok (.istore_n 2, 1) := by decide +kernel
theorem d_M_lost_21 : decode b_M_lost 21 = .ok (.iload_n 2, 1) := by decide +kernel
theorem d_M_lost_22 : decode b_M_lost 22 = .ok (.ifCond .ge 7, 3) := by decide +kernel
theorem d_M_lost_25 : decode b_M_lost 25 = .ok (.iconst 0, 1) := by decide +kernel
theorem d_M_lost_26 : decode b_M_lost 26 = .ok (.goto 4, 3) := by decide +kernel
theorem d_M_lost_29 : decode b_M_lost 29 = .ok (.iload_n 2, 1) := by decide +kernel
theorem d_M_lost_30 : decode b_M_lost 30 = .ok (.istore_n 3, 1) := by decide +kernel
theorem d_M_lost_31 : decode b_M_lost 31 = .ok (.iconst 0, 1) := by decide +kernel
theorem d_M_lost_32 : decode b_M_lost 32 = .ok (.istore 4, 2) := by decide +kernel
theorem d_M_lost_34 : decode b_M_lost 34 = .ok (.iload 4, 2) := by decide +kernel
theorem d_M_lost_36 : decode b_M_lost 36 = .ok (.aload_n 0, 1) := by decide +kernel
theorem d_M_lost_37 : decode b_M_lost 37 = .ok (.getfield 13, 3) := by decide +kernel
theorem d_M_lost_40 : decode b_M_lost 40 = .ok (.iload_n 1, 1) := by decide +kernel
theorem d_M_lost_41 : decode b_M_lost 41 = .ok (.iaload, 1) := by decide +kernel
theorem d_M_lost_42 : decode b_M_lost 42 = .ok (.if_icmp .ge 35, 3) := by decide +kernel
theorem d_M_lost_45 : decode b_M_lost 45 = .ok (.iload 4, 2) := by decide +kernel
theorem d_M_lost_47 : decode b_M_lost 47 = .ok (.bipush 60, 2) := by decide +kernel
theorem d_M_lost_49 : decode b_M_lost 49 = .ok (.if_icmp .ge 28, 3) := by decide +kernel
theorem d_M_lost_52 : decode b_M_lost 52 = .ok (.aload_n 0, 1) := by decide +kernel
theorem d_M_lost_53 : decode b_M_lost 53 = .ok (.getfield 7, 3) := by decide +kernel
theorem d_M_lost_56 : decode b_M_lost 56 = .ok (.bipush 60, 2) := by decide +kernel
theorem d_M_lost_58 : decode b_M_lost 58 = .ok (.iload_n 1, 1) := by decide +kernel
theorem d_M_lost_59 : decode b_M_lost 59 = .ok (.imul, 1) := by decide +kernel
theorem d_M_lost_60 : decode b_M_lost 60 = .ok (.iload 4, 2) := by decide +kernel
theorem d_M_lost_62 : decode b_M_lost 62 = .ok (.iadd, 1) := by decide +kernel
theorem d_M_lost_63 : decode b_M_lost 63 = .ok (.iaload, 1) := by decide +kernel
theorem d_M_lost_64 : decode b_M_lost 64 = .ok (.iload_n 2, 1) := by decide +kernel
theorem d_M_lost_65 : decode b_M_lost 65 = .ok (.if_icmp .gt 6, 3) := by decide +kernel
theorem d_M_lost_68 : decode b_M_lost 68 = .ok (.iinc 3 (-1), 3) := by decide +kernel
theorem d_M_lost_71 : decode b_M_lost 71 = .ok (.iinc 4 1, 3) := by decide +kernel
theorem d_M_lost_74 : decode b_M_lost 74 = .ok (.goto (-40), 3) := by decide +kernel
theorem d_M_lost_77 : decode b_M_lost 77 = .ok (.iload_n 3, 1) := by decide +kernel
theorem d_M_lost_78 : decode b_M_lost 78 = .ok (.ireturn, 1) := by decide +kernel
theorem d_M_gap_0 : decode b_M_gap 0 = .ok (.aload_n 0, 1) := by decide +kernel
theorem d_M_gap_1 : decode b_M_gap 1 = .ok (.iload_n 1, 1) := by decide +kernel
theorem d_M_gap_2 : decode b_M_gap 2 = .ok (.invokevirtual 41, 3) := by decide +kernel
theorem d_M_gap_5 : decode b_M_gap 5 = .ok (.ifCond .eq 5, 3) := by decide +kernel
theorem d_M_gap_8 : decode b_M_gap 8 = .ok (.iconst (-1), 1) := by decide +kernel
theorem d_M_gap_9 : decode b_M_gap 9 = .ok (.ireturn, 1) := by decide +kernel
theorem d_M_gap_10 : decode b_M_gap 10 = .ok (.aload_n 0, 1) := by decide +kernel
theorem d_M_gap_11 : decode b_M_gap 11 = .ok (.iload_n 1, 1) := by decide +kernel
theorem d_M_gap_12 : decode b_M_gap 12 = .ok (.invokevirtual 29, 3) := by decide +kernel
theorem d_M_gap_15 : decode b_M_gap 15 = .ok (.istore_n 2, 1) := by decide +kernel
theorem d_M_gap_16 : decode b_M_gap 16 = .ok (.iload_n 2, 1) := by decide +kernel
theorem d_M_gap_17 : decode b_M_gap 17 = .ok (.iconst 1, 1) := by decide +kernel
theorem d_M_gap_18 : decode b_M_gap 18 = .ok (.isub, 1) := by decide +kernel
theorem d_M_gap_19 : decode b_M_gap 19 = .ok (.istore_n 3, 1) := by decide +kernel
theorem d_M_gap_20 : decode b_M_gap 20 = .ok (.iload_n 3, 1) := by decide +kernel
theorem d_M_gap_21 : decode b_M_gap 21 = .ok (.iload_n 2, 1) := by decide +kernel
theorem d_M_gap_22 : decode b_M_gap 22 = .ok (.aload_n 0, 1) := by decide +kernel
theorem d_M_gap_23 : decode b_M_gap 23 = .ok (.getfield 25, 3) := by decide +kernel
theorem d_M_gap_26 : decode b_M_gap 26 = .ok (.isub, 1) := by decide +kernel
theorem d_M_gap_27 : decode b_M_gap 27 = .ok (.iconst 1, 1) := by decide +kernel
theorem d_M_gap_28 : decode b_M_gap 28 = .ok (.iadd, 1) := by decide +kernel
theorem d_M_gap_29 : decode b_M_gap 29 = .ok (.if_icmp .lt 25, 3) := by decide +kernel
theorem d_M_gap_32 : decode b_M_gap 32 = .ok (.iload_n 3, 1) := by decide +kernel
theorem d_M_gap_33 : decode b_M_gap 33 = .ok (.iconst 1, 1) := by decide +kernel
theorem d_M_gap_34 : decode b_M_gap 34 = .ok (.if_icmp .lt 20, 3) := by decide +kernel
theorem d_M_gap_37 : decode b_M_gap 37 = .ok (.aload_n 0, 1) := by decide +kernel
theorem d_M_gap_38 : decode b_M_gap 38 = .ok (.iload_n 1, 1) := by decide +kernel
theorem d_M_gap_39 : decode b_M_gap 39 = .ok (.iload_n 3, 1) := by decide +kernel
theorem d_M_gap_40 : decode b_M_gap 40 = .ok (.invokevirtual 37, 3) := by decide +kernel
theorem d_M_gap_43 : decode b_M_gap 43 = .ok (.ifCond .ne 5, 3) := by decide +kernel
theorem d_M_gap_46 : decode b_M_gap 46 = .ok (.iload_n 3, 1) := by decide +kernel
theorem d_M_gap_47 : decode b_M_gap 47 = .ok (.ireturn, 1) := by decide +kernel
theorem d_M_gap_48 : decode b_M_gap 48 = .ok (.iinc 3 (-1), 3) := by decide +kernel
theorem d_M_gap_51 : decode b_M_gap 51 = .ok (.goto (-31), 3) := by decide +kernel
theorem d_M_gap_54 : decode b_M_gap 54 = .ok (.iconst 0, 1) := by decide +kernel
theorem d_M_gap_55 : decode b_M_gap 55 = .ok (.ireturn, 1) := by decide +kernel
theorem d_L_cell_0 : decode b_L_cell 0 = .ok (.iload_n 1, 1) := by decide +kernel
theorem d_L_cell_1 : decode b_L_cell 1 = .ok (.aload_n 0, 1) := by decide +kernel
theorem d_L_cell_2 : decode b_L_cell 2 = .ok (.arraylength, 1) := by decide +kernel
theorem d_L_cell_3 : decode b_L_cell 3 = .ok (.if_icmp .ge 9, 3) := by decide +kernel
theorem d_L_cell_6 : decode b_L_cell 6 = .ok (.aload_n 0, 1) := by decide +kernel
theorem d_L_cell_7 : decode b_L_cell 7 = .ok (.iload_n 1, 1) := by decide +kernel
theorem d_L_cell_8 : decode b_L_cell 8 = .ok (.iaload, 1) := by decide +kernel
theorem d_L_cell_9 : decode b_L_cell 9 = .ok (.goto 4, 3) := by decide +kernel
theorem d_L_cell_12 : decode b_L_cell 12 = .ok (.iconst 0, 1) := by decide +kernel
theorem d_L_cell_13 : decode b_L_cell 13 = .ok (.ireturn, 1) := by decide +kernel
end
section
theorem d_L_law_0 : decode b_L_law 0 = .ok (.new 7, 3) := by decide +kernel
theorem d_L_law_3 : decode b_L_law 3 = .ok (.dup, 1) := by decide +kernel
theorem d_L_law_4 : decode b_L_law 4 = .ok (.aload_n 0, 1) := by decide +kernel
theorem d_L_law_5 : decode b_L_law 5 = .ok (.iconst 0, 1) := by decide +kernel
theorem d_L_law_6 : decode b_L_law 6 = .ok (.invokestatic 9, 3) := by decide +kernel
theorem d_L_law_9 : decode b_L_law 9 = .ok (.invokespecial 15, 3) := by decide +kernel
theorem d_L_law_12 : decode b_L_law 12 = .ok (.astore_n 1, 1) := by decide +kernel
theorem d_L_law_13 : decode b_L_law 13 = .ok (.new 18, 3) := by decide +kernel
theorem d_L_law_16 : decode b_L_law 16 = .ok (.dup, 1) := by decide +kernel
theorem d_L_law_17 : decode b_L_law 17 = .ok (.aload_n 0, 1) := by decide +kernel
theorem d_L_law_18 : decode b_L_law 18 = .ok (.iconst 0, 1) := by decide +kernel
theorem d_L_law_19 : decode b_L_law 19 = .ok (.invokestatic 9, 3) := by decide +kernel
theorem d_L_law_22 : decode b_L_law 22 = .ok (.invokespecial 20, 3) := by decide +kernel
theorem d_L_law_25 : decode b_L_law 25 = .ok (.astore_n 2, 1) := by decide +kernel
theorem d_L_law_26 : decode b_L_law 26 = .ok (.iconst 1, 1) := by decide +kernel
theorem d_L_law_27 : decode b_L_law 27 = .ok (.istore_n 3, 1) := by decide +kernel
theorem d_L_law_28 : decode b_L_law 28 = .ok (.iload_n 3, 1) := by decide +kernel
theorem d_L_law_29 : decode b_L_law 29 = .ok (.aload_n 0, 1) := by decide +kernel
theorem d_L_law_30 : decode b_L_law 30 = .ok (.arraylength, 1) := by decide +kernel
theorem d_L_law_31 : decode b_L_law 31 = .ok (.iconst 5, 1) := by decide +kernel
theorem d_L_law_32 : decode b_L_law 32 = .ok (.isub, 1) := by decide +kernel
theorem d_L_law_33 : decode b_L_law 33 = .ok (.if_icmp .gt 524, 3) := by decide +kernel
theorem d_L_law_36 : decode b_L_law 36 = .ok (.aload_n 0, 1) := by decide +kernel
theorem d_L_law_37 : decode b_L_law 37 = .ok (.iload_n 3, 1) := by decide +kernel
theorem d_L_law_38 : decode b_L_law 38 = .ok (.iaload, 1) := by decide +kernel
theorem d_L_law_39 : decode b_L_law 39 = .ok (.bipush 15, 2) := by decide +kernel
theorem d_L_law_41 : decode b_L_law 41 = .ok (.iand, 1) := by decide +kernel
theorem d_L_law_42 : decode b_L_law 42 = .ok (.tableswitch 509 0 14 #[74, 87, 130, 183, 206, 249, 272, 295, 318, 341, 374, 407, 440, 463, 486], 74) := by decide +kernel
theorem d_L_law_116 : decode b_L_law 116 = .ok (.aload_n 1, 1) := by decide +kernel
theorem d_L_law_117 : decode b_L_law 117 = .ok (.invokevirtual 21, 3) := by decide +kernel
theorem d_L_law_120 : decode b_L_law 120 = .ok (.aload_n 2, 1) := by decide +kernel
theorem d_L_law_121 : decode b_L_law 121 = .ok (.invokevirtual 25, 3) := by decide +kernel
theorem d_L_law_124 : decode b_L_law 124 = .ok (.if_icmp .eq 427, 3) := by decide +kernel
theorem d_L_law_127 : decode b_L_law 127 = .ok (.iconst 0, 1) := by decide +kernel
theorem d_L_law_128 : decode b_L_law 128 = .ok (.ireturn, 1) := by decide +kernel
theorem d_L_law_129 : decode b_L_law 129 = .ok (.aload_n 1, 1) := by decide +kernel
theorem d_L_law_130 : decode b_L_law 130 = .ok (.aload_n 0, 1) := by decide +kernel
theorem d_L_law_131 : decode b_L_law 131 = .ok (.iload_n 3, 1) := by decide +kernel
theorem d_L_law_132 : decode b_L_law 132 = .ok (.iconst 1, 1) := by decide +kernel
theorem d_L_law_133 : decode b_L_law 133 = .ok (.iadd, 1) := by decide +kernel
theorem d_L_law_134 : decode b_L_law 134 = .ok (.iaload, 1) := by decide +kernel
theorem d_L_law_135 : decode b_L_law 135 = .ok (.aload_n 0, 1) := by decide +kernel
theorem d_L_law_136 : decode b_L_law 136 = .ok (.iload_n 3, 1) := by decide +kernel
theorem d_L_law_137 : decode b_L_law 137 = .ok (.iconst 2, 1) := by decide +kernel
theorem d_L_law_138 : decode b_L_law 138 = .ok (.iadd, 1) := by decide +kernel
theorem d_L_law_139 : decode b_L_law 139 = .ok (.iaload, 1) := by decide +kernel
theorem d_L_law_140 : decode b_L_law 140 = .ok (.aload_n 0, 1) := by decide +kernel
theorem d_L_law_141 : decode b_L_law 141 = .ok (.iload_n 3, 1) := by decide +kernel
theorem d_L_law_142 : decode b_L_law 142 = .ok (.iconst 3, 1) := by decide +kernel
theorem d_L_law_143 : decode b_L_law 143 = .ok (.iadd, 1) := by decide +kernel
theorem d_L_law_144 : decode b_L_law 144 = .ok (.iaload, 1) := by decide +kernel
theorem d_L_law_145 : decode b_L_law 145 = .ok (.invokevirtual 26, 3) := by decide +kernel
theorem d_L_law_148 : decode b_L_law 148 = .ok (.aload_n 2, 1) := by decide +kernel
theorem d_L_law_149 : decode b_L_law 149 = .ok (.aload_n 0, 1) := by decide +kernel
theorem d_L_law_150 : decode b_L_law 150 = .ok (.iload_n 3, 1) := by decide +kernel
theorem d_L_law_151 : decode b_L_law 151 = .ok (.iconst 1, 1) := by decide +kernel
theorem d_L_law_152 : decode b_L_law 152 = .ok (.iadd, 1) := by decide +kernel
theorem d_L_law_153 : decode b_L_law 153 = .ok (.iaload, 1) := by decide +kernel
theorem d_L_law_154 : decode b_L_law 154 = .ok (.aload_n 0, 1) := by decide +kernel
theorem d_L_law_155 : decode b_L_law 155 = .ok (.iload_n 3, 1) := by decide +kernel
theorem d_L_law_156 : decode b_L_law 156 = .ok (.iconst 2, 1) := by decide +kernel
theorem d_L_law_157 : decode b_L_law 157 = .ok (.iadd, 1) := by decide +kernel
theorem d_L_law_158 : decode b_L_law 158 = .ok (.iaload, 1) := by decide +kernel
theorem d_L_law_159 : decode b_L_law 159 = .ok (.aload_n 0, 1) := by decide +kernel
theorem d_L_law_160 : decode b_L_law 160 = .ok (.iload_n 3, 1) := by decide +kernel
theorem d_L_law_161 : decode b_L_law 161 = .ok (.iconst 3, 1) := by decide +kernel
theorem d_L_law_162 : decode b_L_law 162 = .ok (.iadd, 1) := by decide +kernel
theorem d_L_law_163 : decode b_L_law 163 = .ok (.iaload, 1) := by decide +kernel
theorem d_L_law_164 : decode b_L_law 164 = .ok (.invokevirtual 30, 3) := by decide +kernel
theorem d_L_law_167 : decode b_L_law 167 = .ok (.if_icmp .eq 384, 3) := by decide +kernel
theorem d_L_law_170 : decode b_L_law 170 = .ok (.iconst 0, 1) := by decide +kernel
theorem d_L_law_171 : decode b_L_law 171 = .ok (.ireturn, 1) := by decide +kernel
theorem d_L_law_172 : decode b_L_law 172 = .ok (.aload_n 1, 1) := by decide +kernel
theorem d_L_law_173 : decode b_L_law 173 = .ok (.aload_n 0, 1) := by decide +kernel
theorem d_L_law_174 : decode b_L_law 174 = .ok (.iload_n 3, 1) := by decide +kernel
theorem d_L_law_175 : decode b_L_law 175 = .ok (.iconst 1, 1) := by decide +kernel
theorem d_L_law_176 : decode b_L_law 176 = .ok (.iadd, 1) := by decide +kernel
theorem d_L_law_177 : decode b_L_law 177 = .ok (.iaload, 1) := by decide +kernel
theorem d_L_law_178 : decode b_L_law 178 = .ok (.aload_n 0, 1) := by decide +kernel
theorem d_L_law_179 : decode b_L_law 179 = .ok (.iload_n 3, 1) := by decide +kernel
theorem d_L_law_180 : decode b_L_law 180 = .ok (.iconst 2, 1) := by decide +kernel
theorem d_L_law_181 : decode b_L_law 181 = .ok (.iadd, 1) := by decide +kernel
theorem d_L_law_182 : decode b_L_law 182 = .ok (.iaload, 1) := by decide +kernel
theorem d_L_law_183 : decode b_L_law 183 = .ok (.aload_n 0, 1) := by decide +kernel
theorem d_L_law_184 : decode b_L_law 184 = .ok (.iload_n 3, 1) := by decide +kernel
theorem d_L_law_185 : decode b_L_law 185 = .ok (.iconst 3, 1) := by decide +kernel
theorem d_L_law_186 : decode b_L_law 186 = .ok (.iadd, 1) := by decide +kernel
theorem d_L_law_187 : decode b_L_law 187 = .ok (.iaload, 1) := by decide +kernel
theorem d_L_law_188 : decode b_L_law 188 = .ok (.aload_n 0, 1) := by decide +kernel
theorem d_L_law_189 : decode b_L_law 189 = .ok (.iload_n 3, 1) := by decide +kernel
theorem d_L_law_190 : decode b_L_law 190 = .ok (.iconst 4, 1) := by decide +kernel
theorem d_L_law_191 : decode b_L_law 191 = .ok (.iadd, 1) := by decide +kernel
theorem d_L_law_192 : decode b_L_law 192 = .ok (.iaload, 1) := by decide +kernel
theorem d_L_law_193 : decode b_L_law 193 = .ok (.invokevirtual 31, 3) := by decide +kernel
theorem d_L_law_196 : decode b_L_law 196 = .ok (.aload_n 2, 1) := by decide +kernel
end
section
theorem d_L_law_197 : decode b_L_law 197 = .ok (.aload_n 0, 1) := by decide +kernel
theorem d_L_law_198 : decode b_L_law 198 = .ok (.iload_n 3, 1) := by decide +kernel
theorem d_L_law_199 : decode b_L_law 199 = .ok (.iconst 1, 1) := by decide +kernel
theorem d_L_law_200 : decode b_L_law 200 = .ok (.iadd, 1) := by decide +kernel
theorem d_L_law_201 : decode b_L_law 201 = .ok (.iaload, 1) := by decide +kernel
theorem d_L_law_202 : decode b_L_law 202 = .ok (.aload_n 0, 1) := by decide +kernel
theorem d_L_law_203 : decode b_L_law 203 = .ok (.iload_n 3, 1) := by decide +kernel
theorem d_L_law_204 : decode b_L_law 204 = .ok (.iconst 2, 1) := by decide +kernel
theorem d_L_law_205 : decode b_L_law 205 = .ok (.iadd, 1) := by decide +kernel
theorem d_L_law_206 : decode b_L_law 206 = .ok (.iaload, 1) := by decide +kernel
theorem d_L_law_207 : decode b_L_law 207 = .ok (.aload_n 0, 1) := by decide +kernel
theorem d_L_law_208 : decode b_L_law 208 = .ok (.iload_n 3, 1) := by decide +kernel
theorem d_L_law_209 : decode b_L_law 209 = .ok (.iconst 3, 1) := by decide +kernel
theorem d_L_law_210 : decode b_L_law 210 = .ok (.iadd, 1) := by decide +kernel
theorem d_L_law_211 : decode b_L_law 211 = .ok (.iaload, 1) := by decide +kernel
theorem d_L_law_212 : decode b_L_law 212 = .ok (.aload_n 0, 1) := by decide +kernel
theorem d_L_law_213 : decode b_L_law 213 = .ok (.iload_n 3, 1) := by decide +kernel
theorem d_L_law_214 : decode b_L_law 214 = .ok (.iconst 4, 1) := by decide +kernel
theorem d_L_law_215 : decode b_L_law 215 = .ok (.iadd, 1) := by decide +kernel
theorem d_L_law_216 : decode b_L_law 216 = .ok (.iaload, 1) := by decide +kernel
theorem d_L_law_217 : decode b_L_law 217 = .ok (.invokevirtual 35, 3) := by decide +kernel
theorem d_L_law_220 : decode b_L_law 220 = .ok (.if_icmp .eq 331, 3) := by decide +kernel
theorem d_L_law_223 : decode b_L_law 223 = .ok (.iconst 0, 1) := by decide +kernel
theorem d_L_law_224 : decode b_L_law 224 = .ok (.ireturn, 1) := by decide +kernel
theorem d_L_law_225 : decode b_L_law 225 = .ok (.aload_n 1, 1) := by decide +kernel
theorem d_L_law_226 : decode b_L_law 226 = .ok (.aload_n 0, 1) := by decide +kernel
theorem d_L_law_227 : decode b_L_law 227 = .ok (.iload_n 3, 1) := by decide +kernel
theorem d_L_law_228 : decode b_L_law 228 = .ok (.iconst 1, 1) := by decide +kernel
theorem d_L_law_229 : decode b_L_law 229 = .ok (.iadd, 1) := by decide +kernel
theorem d_L_law_230 : decode b_L_law 230 = .ok (.iaload, 1) := by decide +kernel
theorem d_L_law_231 : decode b_L_law 231 = .ok (.invokevirtual 36, 3) := by decide +kernel
theorem d_L_law_234 : decode b_L_law 234 = .ok (.aload_n 2, 1) := by decide +kernel
theorem d_L_law_235 : decode b_L_law 235 = .ok (.aload_n 0, 1) := by decide +kernel
theorem d_L_law_236 : decode b_L_law 236 = .ok (.iload_n 3, 1) := by decide +kernel
theorem d_L_law_237 : decode b_L_law 237 = .ok (.iconst 1, 1) := by decide +kernel
theorem d_L_law_238 : decode b_L_law 238 = .ok (.iadd, 1) := by decide +kernel
theorem d_L_law_239 : decode b_L_law 239 = .ok (.iaload, 1) := by decide +kernel
theorem d_L_law_240 : decode b_L_law 240 = .ok (.invokevirtual 40, 3) := by decide +kernel
theorem d_L_law_243 : decode b_L_law 243 = .ok (.if_icmp .eq 308, 3) := by decide +kernel
theorem d_L_law_246 : decode b_L_law 246 = .ok (.iconst 0, 1) := by decide +kernel
theorem d_L_law_247 : decode b_L_law 247 = .ok (.ireturn, 1) := by decide +kernel
theorem d_L_law_248 : decode b_L_law 248 = .ok (.aload_n 1, 1) := by decide +kernel
theorem d_L_law_249 : decode b_L_law 249 = .ok (.aload_n 0, 1) := by decide +kernel
theorem d_L_law_250 : decode b_L_law 250 = .ok (.iload_n 3, 1) := by decide +kernel
theorem d_L_law_251 : decode b_L_law 251 = .ok (.iconst 1, 1) := by decide +kernel
theorem d_L_law_252 : decode b_L_law 252 = .ok (.iadd, 1) := by decide +kernel
theorem d_L_law_253 : decode b_L_law 253 = .ok (.iaload, 1) := by decide +kernel
theorem d_L_law_254 : decode b_L_law 254 = .ok (.aload_n 0, 1) := by decide +kernel
theorem d_L_law_255 : decode b_L_law 255 = .ok (.iload_n 3, 1) := by decide +kernel
theorem d_L_law_256 : decode b_L_law 256 = .ok (.iconst 2, 1) := by decide +kernel
theorem d_L_law_257 : decode b_L_law 257 = .ok (.iadd, 1) := by decide +kernel
theorem d_L_law_258 : decode b_L_law 258 = .ok (.iaload, 1) := by decide +kernel
theorem d_L_law_259 : decode b_L_law 259 = .ok (.aload_n 0, 1) := by decide +kernel
theorem d_L_law_260 : decode b_L_law 260 = .ok (.iload_n 3, 1) := by decide +kernel
theorem d_L_law_261 : decode b_L_law 261 = .ok (.iconst 3, 1) := by decide +kernel
theorem d_L_law_262 : decode b_L_law 262 = .ok (.iadd, 1) := by decide +kernel
theorem d_L_law_263 : decode b_L_law 263 = .ok (.iaload, 1) := by decide +kernel
theorem d_L_law_264 : decode b_L_law 264 = .ok (.invokevirtual 41, 3) := by decide +kernel
theorem d_L_law_267 : decode b_L_law 267 = .ok (.aload_n 2, 1) := by decide +kernel
theorem d_L_law_268 : decode b_L_law 268 = .ok (.aload_n 0, 1) := by decide +kernel
theorem d_L_law_269 : decode b_L_law 269 = .ok (.iload_n 3, 1) := by decide +kernel
theorem d_L_law_270 : decode b_L_law 270 = .ok (.iconst 1, 1) := by decide +kernel
theorem d_L_law_271 : decode b_L_law 271 = .ok (.iadd, 1) := by decide +kernel
theorem d_L_law_272 : decode b_L_law 272 = .ok (.iaload, 1) := by decide +kernel
theorem d_L_law_273 : decode b_L_law 273 = .ok (.aload_n 0, 1) := by decide +kernel
theorem d_L_law_274 : decode b_L_law 274 = .ok (.iload_n 3, 1) := by decide +kernel
theorem d_L_law_275 : decode b_L_law 275 = .ok (.iconst 2, 1) := by decide +kernel
theorem d_L_law_276 : decode b_L_law 276 = .ok (.iadd, 1) := by decide +kernel
theorem d_L_law_277 : decode b_L_law 277 = .ok (.iaload, 1) := by decide +kernel
theorem d_L_law_278 : decode b_L_law 278 = .ok (.aload_n 0, 1) := by decide +kernel
theorem d_L_law_279 : decode b_L_law 279 = .ok (.iload_n 3, 1) := by decide +kernel
theorem d_L_law_280 : decode b_L_law 280 = .ok (.iconst 3, 1) := by decide +kernel
theorem d_L_law_281 : decode b_L_law 281 = .ok (.iadd, 1) := by decide +kernel
theorem d_L_law_282 : decode b_L_law 282 = .ok (.iaload, 1) := by decide +kernel
theorem d_L_law_283 : decode b_L_law 283 = .ok (.invokevirtual 44, 3) := by decide +kernel
theorem d_L_law_286 : decode b_L_law 286 = .ok (.if_icmp .eq 265, 3) := by decide +kernel
theorem d_L_law_289 : decode b_L_law 289 = .ok (.iconst 0, 1) := by decide +kernel
theorem d_L_law_290 : decode b_L_law 290 = .ok (.ireturn, 1) := by decide +kernel
theorem d_L_law_291 : decode b_L_law 291 = .ok (.aload_n 1, 1) := by decide +kernel
theorem d_L_law_292 : decode b_L_law 292 = .ok (.aload_n 0, 1) := by decide +kernel
theorem d_L_law_293 : decode b_L_law 293 = .ok (.iload_n 3, 1) := by decide +kernel
theorem d_L_law_294 : decode b_L_law 294 = .ok (.iconst 1, 1) := by decide +kernel
theorem d_L_law_295 : decode b_L_law 295 = .ok (.iadd, 1) := by decide +kernel
theorem d_L_law_296 : decode b_L_law 296 = .ok (.iaload, 1) := by decide +kernel
theorem d_L_law_297 : decode b_L_law 297 = .ok (.invokevirtual 45, 3) := by decide +kernel
theorem d_L_law_300 : decode b_L_law 300 = .ok (.aload_n 2, 1) := by decide +kernel
theorem d_L_law_301 : decode b_L_law 301 = .ok (.aload_n 0, 1) := by decide +kernel
theorem d_L_law_302 : decode b_L_law 302 = .ok (.iload_n 3, 1) := by decide +kernel
theorem d_L_law_303 : decode b_L_law 303 = .ok (.iconst 1, 1) := by decide +kernel
theorem d_L_law_304 : decode b_L_law 304 = .ok (.iadd, 1) := by decide +kernel
theorem d_L_law_305 : decode b_L_law 305 = .ok (.iaload, 1) := by decide +kernel
theorem d_L_law_306 : decode b_L_law 306 = .ok (.invokevirtual 48, 3) := by decide +kernel
theorem d_L_law_309 : decode b_L_law 309 = .ok (.if_icmp .eq 242, 3) := by decide +kernel
theorem d_L_law_312 : decode b_L_law 312 = .ok (.iconst 0, 1) := by decide +kernel
theorem d_L_law_313 : decode b_L_law 313 = .ok (.ireturn, 1) := by decide +kernel
end
section
theorem d_L_law_314 : decode b_L_law 314 = .ok (.aload_n 1, 1) := by decide +kernel
theorem d_L_law_315 : decode b_L_law 315 = .ok (.aload_n 0, 1) := by decide +kernel
theorem d_L_law_316 : decode b_L_law 316 = .ok (.iload_n 3, 1) := by decide +kernel
theorem d_L_law_317 : decode b_L_law 317 = .ok (.iconst 1, 1) := by decide +kernel
theorem d_L_law_318 : decode b_L_law 318 = .ok (.iadd, 1) := by decide +kernel
theorem d_L_law_319 : decode b_L_law 319 = .ok (.iaload, 1) := by decide +kernel
theorem d_L_law_320 : decode b_L_law 320 = .ok (.invokevirtual 49, 3) := by decide +kernel
theorem d_L_law_323 : decode b_L_law 323 = .ok (.aload_n 2, 1) := by decide +kernel
theorem d_L_law_324 : decode b_L_law 324 = .ok (.aload_n 0, 1) := by decide +kernel
theorem d_L_law_325 : decode b_L_law 325 = .ok (.iload_n 3, 1) := by decide +kernel
theorem d_L_law_326 : decode b_L_law 326 = .ok (.iconst 1, 1) := by decide +kernel
theorem d_L_law_327 : decode b_L_law 327 = .ok (.iadd, 1) := by decide +kernel
theorem d_L_law_328 : decode b_L_law 328 = .ok (.iaload, 1) := by decide +kernel
theorem d_L_law_329 : decode b_L_law 329 = .ok (.invokevirtual 52, 3) := by decide +kernel
theorem d_L_law_332 : decode b_L_law 332 = .ok (.if_icmp .eq 219, 3) := by decide +kernel
theorem d_L_law_335 : decode b_L_law 335 = .ok (.iconst 0, 1) := by decide +kernel
theorem d_L_law_336 : decode b_L_law 336 = .ok (.ireturn, 1) := by decide +kernel
theorem d_L_law_337 : decode b_L_law 337 = .ok (.aload_n 1, 1) := by decide +kernel
theorem d_L_law_338 : decode b_L_law 338 = .ok (.aload_n 0, 1) := by decide +kernel
theorem d_L_law_339 : decode b_L_law 339 = .ok (.iload_n 3, 1) := by decide +kernel
theorem d_L_law_340 : decode b_L_law 340 = .ok (.iconst 1, 1) := by decide +kernel
theorem d_L_law_341 : decode b_L_law 341 = .ok (.iadd, 1) := by decide +kernel
theorem d_L_law_342 : decode b_L_law 342 = .ok (.iaload, 1) := by decide +kernel
theorem d_L_law_343 : decode b_L_law 343 = .ok (.invokevirtual 53, 3) := by decide +kernel
theorem d_L_law_346 : decode b_L_law 346 = .ok (.aload_n 2, 1) := by decide +kernel
theorem d_L_law_347 : decode b_L_law 347 = .ok (.aload_n 0, 1) := by decide +kernel
theorem d_L_law_348 : decode b_L_law 348 = .ok (.iload_n 3, 1) := by decide +kernel
theorem d_L_law_349 : decode b_L_law 349 = .ok (.iconst 1, 1) := by decide +kernel
theorem d_L_law_350 : decode b_L_law 350 = .ok (.iadd, 1) := by decide +kernel
theorem d_L_law_351 : decode b_L_law 351 = .ok (.iaload, 1) := by decide +kernel
theorem d_L_law_352 : decode b_L_law 352 = .ok (.invokevirtual 56, 3) := by decide +kernel
theorem d_L_law_355 : decode b_L_law 355 = .ok (.if_icmp .eq 196, 3) := by decide +kernel
theorem d_L_law_358 : decode b_L_law 358 = .ok (.iconst 0, 1) := by decide +kernel
theorem d_L_law_359 : decode b_L_law 359 = .ok (.ireturn, 1) := by decide +kernel
theorem d_L_law_360 : decode b_L_law 360 = .ok (.aload_n 1, 1) := by decide +kernel
theorem d_L_law_361 : decode b_L_law 361 = .ok (.aload_n 0, 1) := by decide +kernel
theorem d_L_law_362 : decode b_L_law 362 = .ok (.iload_n 3, 1) := by decide +kernel
theorem d_L_law_363 : decode b_L_law 363 = .ok (.iconst 1, 1) := by decide +kernel
theorem d_L_law_364 : decode b_L_law 364 = .ok (.iadd, 1) := by decide +kernel
theorem d_L_law_365 : decode b_L_law 365 = .ok (.iaload, 1) := by decide +kernel
theorem d_L_law_366 : decode b_L_law 366 = .ok (.invokevirtual 57, 3) := by decide +kernel
theorem d_L_law_369 : decode b_L_law 369 = .ok (.aload_n 2, 1) := by decide +kernel
theorem d_L_law_370 : decode b_L_law 370 = .ok (.aload_n 0, 1) := by decide +kernel
theorem d_L_law_371 : decode b_L_law 371 = .ok (.iload_n 3, 1) := by decide +kernel
theorem d_L_law_372 : decode b_L_law 372 = .ok (.iconst 1, 1) := by decide +kernel
theorem d_L_law_373 : decode b_L_law 373 = .ok (.iadd, 1) := by decide +kernel
theorem d_L_law_374 : decode b_L_law 374 = .ok (.iaload, 1) := by decide +kernel
theorem d_L_law_375 : decode b_L_law 375 = .ok (.invokevirtual 60, 3) := by decide +kernel
theorem d_L_law_378 : decode b_L_law 378 = .ok (.if_icmp .eq 173, 3) := by decide +kernel
theorem d_L_law_381 : decode b_L_law 381 = .ok (.iconst 0, 1) := by decide +kernel
theorem d_L_law_382 : decode b_L_law 382 = .ok (.ireturn, 1) := by decide +kernel
theorem d_L_law_383 : decode b_L_law 383 = .ok (.aload_n 1, 1) := by decide +kernel
theorem d_L_law_384 : decode b_L_law 384 = .ok (.aload_n 0, 1) := by decide +kernel
theorem d_L_law_385 : decode b_L_law 385 = .ok (.iload_n 3, 1) := by decide +kernel
theorem d_L_law_386 : decode b_L_law 386 = .ok (.iconst 1, 1) := by decide +kernel
theorem d_L_law_387 : decode b_L_law 387 = .ok (.iadd, 1) := by decide +kernel
theorem d_L_law_388 : decode b_L_law 388 = .ok (.iaload, 1) := by decide +kernel
theorem d_L_law_389 : decode b_L_law 389 = .ok (.aload_n 0, 1) := by decide +kernel
theorem d_L_law_390 : decode b_L_law 390 = .ok (.iload_n 3, 1) := by decide +kernel
theorem d_L_law_391 : decode b_L_law 391 = .ok (.iconst 2, 1) := by decide +kernel
theorem d_L_law_392 : decode b_L_law 392 = .ok (.iadd, 1) := by decide +kernel
theorem d_L_law_393 : decode b_L_law 393 = .ok (.iaload, 1) := by decide +kernel
theorem d_L_law_394 : decode b_L_law 394 = .ok (.invokevirtual 61, 3) := by decide +kernel
theorem d_L_law_397 : decode b_L_law 397 = .ok (.aload_n 2, 1) := by decide +kernel
theorem d_L_law_398 : decode b_L_law 398 = .ok (.aload_n 0, 1) := by decide +kernel
theorem d_L_law_399 : decode b_L_law 399 = .ok (.iload_n 3, 1) := by decide +kernel
theorem d_L_law_400 : decode b_L_law 400 = .ok (.iconst 1, 1) := by decide +kernel
theorem d_L_law_401 : decode b_L_law 401 = .ok (.iadd, 1) := by decide +kernel
theorem d_L_law_402 : decode b_L_law 402 = .ok (.iaload, 1) := by decide +kernel
theorem d_L_law_403 : decode b_L_law 403 = .ok (.aload_n 0, 1) := by decide +kernel
theorem d_L_law_404 : decode b_L_law 404 = .ok (.iload_n 3, 1) := by decide +kernel
theorem d_L_law_405 : decode b_L_law 405 = .ok (.iconst 2, 1) := by decide +kernel
theorem d_L_law_406 : decode b_L_law 406 = .ok (.iadd, 1) := by decide +kernel
theorem d_L_law_407 : decode b_L_law 407 = .ok (.iaload, 1) := by decide +kernel
theorem d_L_law_408 : decode b_L_law 408 = .ok (.invokevirtual 65, 3) := by decide +kernel
theorem d_L_law_411 : decode b_L_law 411 = .ok (.if_icmp .eq 140, 3) := by decide +kernel
theorem d_L_law_414 : decode b_L_law 414 = .ok (.iconst 0, 1) := by decide +kernel
theorem d_L_law_415 : decode b_L_law 415 = .ok (.ireturn, 1) := by decide +kernel
theorem d_L_law_416 : decode b_L_law 416 = .ok (.aload_n 1, 1) := by decide +kernel
theorem d_L_law_417 : decode b_L_law 417 = .ok (.aload_n 0, 1) := by decide +kernel
theorem d_L_law_418 : decode b_L_law 418 = .ok (.iload_n 3, 1) := by decide +kernel
theorem d_L_law_419 : decode b_L_law 419 = .ok (.iconst 1, 1) := by decide +kernel
theorem d_L_law_420 : decode b_L_law 420 = .ok (.iadd, 1) := by decide +kernel
theorem d_L_law_421 : decode b_L_law 421 = .ok (.iaload, 1) := by decide +kernel
theorem d_L_law_422 : decode b_L_law 422 = .ok (.aload_n 0, 1) := by decide +kernel
theorem d_L_law_423 : decode b_L_law 423 = .ok (.iload_n 3, 1) := by decide +kernel
theorem d_L_law_424 : decode b_L_law 424 = .ok (.iconst 2, 1) := by decide +kernel
theorem d_L_law_425 : decode b_L_law 425 = .ok (.iadd, 1) := by decide +kernel
theorem d_L_law_426 : decode b_L_law 426 = .ok (.iaload, 1) := by decide +kernel
theorem d_L_law_427 : decode b_L_law 427 = .ok (.invokevirtual 66, 3) := by decide +kernel
theorem d_L_law_430 : decode b_L_law 430 = .ok (.aload_n 2, 1) := by decide +kernel
theorem d_L_law_431 : decode b_L_law 431 = .ok (.aload_n 0, 1) := by decide +kernel
theorem d_L_law_432 : decode b_L_law 432 = .ok (.iload_n 3, 1) := by decide +kernel
theorem d_L_law_433 : decode b_L_law 433 = .ok (.iconst 1, 1) := by decide +kernel
theorem d_L_law_434 : decode b_L_law 434 = .ok (.iadd, 1) := by decide +kernel
end
section
theorem d_L_law_435 : decode b_L_law 435 = .ok (.iaload, 1) := by decide +kernel
theorem d_L_law_436 : decode b_L_law 436 = .ok (.aload_n 0, 1) := by decide +kernel
theorem d_L_law_437 : decode b_L_law 437 = .ok (.iload_n 3, 1) := by decide +kernel
theorem d_L_law_438 : decode b_L_law 438 = .ok (.iconst 2, 1) := by decide +kernel
theorem d_L_law_439 : decode b_L_law 439 = .ok (.iadd, 1) := by decide +kernel
theorem d_L_law_440 : decode b_L_law 440 = .ok (.iaload, 1) := by decide +kernel
theorem d_L_law_441 : decode b_L_law 441 = .ok (.invokevirtual 69, 3) := by decide +kernel
theorem d_L_law_444 : decode b_L_law 444 = .ok (.if_icmp .eq 107, 3) := by decide +kernel
theorem d_L_law_447 : decode b_L_law 447 = .ok (.iconst 0, 1) := by decide +kernel
theorem d_L_law_448 : decode b_L_law 448 = .ok (.ireturn, 1) := by decide +kernel
theorem d_L_law_449 : decode b_L_law 449 = .ok (.aload_n 1, 1) := by decide +kernel
theorem d_L_law_450 : decode b_L_law 450 = .ok (.aload_n 0, 1) := by decide +kernel
theorem d_L_law_451 : decode b_L_law 451 = .ok (.iload_n 3, 1) := by decide +kernel
theorem d_L_law_452 : decode b_L_law 452 = .ok (.iconst 1, 1) := by decide +kernel
theorem d_L_law_453 : decode b_L_law 453 = .ok (.iadd, 1) := by decide +kernel
theorem d_L_law_454 : decode b_L_law 454 = .ok (.iaload, 1) := by decide +kernel
theorem d_L_law_455 : decode b_L_law 455 = .ok (.aload_n 0, 1) := by decide +kernel
theorem d_L_law_456 : decode b_L_law 456 = .ok (.iload_n 3, 1) := by decide +kernel
theorem d_L_law_457 : decode b_L_law 457 = .ok (.iconst 2, 1) := by decide +kernel
theorem d_L_law_458 : decode b_L_law 458 = .ok (.iadd, 1) := by decide +kernel
theorem d_L_law_459 : decode b_L_law 459 = .ok (.iaload, 1) := by decide +kernel
theorem d_L_law_460 : decode b_L_law 460 = .ok (.invokevirtual 70, 3) := by decide +kernel
theorem d_L_law_463 : decode b_L_law 463 = .ok (.aload_n 2, 1) := by decide +kernel
theorem d_L_law_464 : decode b_L_law 464 = .ok (.aload_n 0, 1) := by decide +kernel
theorem d_L_law_465 : decode b_L_law 465 = .ok (.iload_n 3, 1) := by decide +kernel
theorem d_L_law_466 : decode b_L_law 466 = .ok (.iconst 1, 1) := by decide +kernel
theorem d_L_law_467 : decode b_L_law 467 = .ok (.iadd, 1) := by decide +kernel
theorem d_L_law_468 : decode b_L_law 468 = .ok (.iaload, 1) := by decide +kernel
theorem d_L_law_469 : decode b_L_law 469 = .ok (.aload_n 0, 1) := by decide +kernel
theorem d_L_law_470 : decode b_L_law 470 = .ok (.iload_n 3, 1) := by decide +kernel
theorem d_L_law_471 : decode b_L_law 471 = .ok (.iconst 2, 1) := by decide +kernel
theorem d_L_law_472 : decode b_L_law 472 = .ok (.iadd, 1) := by decide +kernel
theorem d_L_law_473 : decode b_L_law 473 = .ok (.iaload, 1) := by decide +kernel
theorem d_L_law_474 : decode b_L_law 474 = .ok (.invokevirtual 73, 3) := by decide +kernel
theorem d_L_law_477 : decode b_L_law 477 = .ok (.if_icmp .eq 74, 3) := by decide +kernel
theorem d_L_law_480 : decode b_L_law 480 = .ok (.iconst 0, 1) := by decide +kernel
theorem d_L_law_481 : decode b_L_law 481 = .ok (.ireturn, 1) := by decide +kernel
theorem d_L_law_482 : decode b_L_law 482 = .ok (.aload_n 1, 1) := by decide +kernel
theorem d_L_law_483 : decode b_L_law 483 = .ok (.aload_n 0, 1) := by decide +kernel
theorem d_L_law_484 : decode b_L_law 484 = .ok (.iload_n 3, 1) := by decide +kernel
theorem d_L_law_485 : decode b_L_law 485 = .ok (.iconst 1, 1) := by decide +kernel
theorem d_L_law_486 : decode b_L_law 486 = .ok (.iadd, 1) := by decide +kernel
theorem d_L_law_487 : decode b_L_law 487 = .ok (.iaload, 1) := by decide +kernel
theorem d_L_law_488 : decode b_L_law 488 = .ok (.invokevirtual 74, 3) := by decide +kernel
theorem d_L_law_491 : decode b_L_law 491 = .ok (.aload_n 2, 1) := by decide +kernel
theorem d_L_law_492 : decode b_L_law 492 = .ok (.aload_n 0, 1) := by decide +kernel
theorem d_L_law_493 : decode b_L_law 493 = .ok (.iload_n 3, 1) := by decide +kernel
theorem d_L_law_494 : decode b_L_law 494 = .ok (.iconst 1, 1) := by decide +kernel
theorem d_L_law_495 : decode b_L_law 495 = .ok (.iadd, 1) := by decide +kernel
theorem d_L_law_496 : decode b_L_law 496 = .ok (.iaload, 1) := by decide +kernel
theorem d_L_law_497 : decode b_L_law 497 = .ok (.invokevirtual 77, 3) := by decide +kernel
theorem d_L_law_500 : decode b_L_law 500 = .ok (.if_icmp .eq 51, 3) := by decide +kernel
theorem d_L_law_503 : decode b_L_law 503 = .ok (.iconst 0, 1) := by decide +kernel
theorem d_L_law_504 : decode b_L_law 504 = .ok (.ireturn, 1) := by decide +kernel
theorem d_L_law_505 : decode b_L_law 505 = .ok (.aload_n 1, 1) := by decide +kernel
theorem d_L_law_506 : decode b_L_law 506 = .ok (.aload_n 0, 1) := by decide +kernel
theorem d_L_law_507 : decode b_L_law 507 = .ok (.iload_n 3, 1) := by decide +kernel
theorem d_L_law_508 : decode b_L_law 508 = .ok (.iconst 1, 1) := by decide +kernel
theorem d_L_law_509 : decode b_L_law 509 = .ok (.iadd, 1) := by decide +kernel
theorem d_L_law_510 : decode b_L_law 510 = .ok (.iaload, 1) := by decide +kernel
theorem d_L_law_511 : decode b_L_law 511 = .ok (.invokevirtual 78, 3) := by decide +kernel
theorem d_L_law_514 : decode b_L_law 514 = .ok (.aload_n 2, 1) := by decide +kernel
theorem d_L_law_515 : decode b_L_law 515 = .ok (.aload_n 0, 1) := by decide +kernel
theorem d_L_law_516 : decode b_L_law 516 = .ok (.iload_n 3, 1) := by decide +kernel
theorem d_L_law_517 : decode b_L_law 517 = .ok (.iconst 1, 1) := by decide +kernel
theorem d_L_law_518 : decode b_L_law 518 = .ok (.iadd, 1) := by decide +kernel
theorem d_L_law_519 : decode b_L_law 519 = .ok (.iaload, 1) := by decide +kernel
theorem d_L_law_520 : decode b_L_law 520 = .ok (.invokevirtual 81, 3) := by decide +kernel
theorem d_L_law_523 : decode b_L_law 523 = .ok (.if_icmp .eq 28, 3) := by decide +kernel
theorem d_L_law_526 : decode b_L_law 526 = .ok (.iconst 0, 1) := by decide +kernel
theorem d_L_law_527 : decode b_L_law 527 = .ok (.ireturn, 1) := by decide +kernel
theorem d_L_law_528 : decode b_L_law 528 = .ok (.aload_n 1, 1) := by decide +kernel
theorem d_L_law_529 : decode b_L_law 529 = .ok (.aload_n 0, 1) := by decide +kernel
theorem d_L_law_530 : decode b_L_law 530 = .ok (.iload_n 3, 1) := by decide +kernel
theorem d_L_law_531 : decode b_L_law 531 = .ok (.iconst 1, 1) := by decide +kernel
theorem d_L_law_532 : decode b_L_law 532 = .ok (.iadd, 1) := by decide +kernel
theorem d_L_law_533 : decode b_L_law 533 = .ok (.iaload, 1) := by decide +kernel
theorem d_L_law_534 : decode b_L_law 534 = .ok (.invokevirtual 82, 3) := by decide +kernel
theorem d_L_law_537 : decode b_L_law 537 = .ok (.aload_n 2, 1) := by decide +kernel
theorem d_L_law_538 : decode b_L_law 538 = .ok (.aload_n 0, 1) := by decide +kernel
theorem d_L_law_539 : decode b_L_law 539 = .ok (.iload_n 3, 1) := by decide +kernel
theorem d_L_law_540 : decode b_L_law 540 = .ok (.iconst 1, 1) := by decide +kernel
theorem d_L_law_541 : decode b_L_law 541 = .ok (.iadd, 1) := by decide +kernel
theorem d_L_law_542 : decode b_L_law 542 = .ok (.iaload, 1) := by decide +kernel
theorem d_L_law_543 : decode b_L_law 543 = .ok (.invokevirtual 85, 3) := by decide +kernel
theorem d_L_law_546 : decode b_L_law 546 = .ok (.if_icmp .eq 5, 3) := by decide +kernel
theorem d_L_law_549 : decode b_L_law 549 = .ok (.iconst 0, 1) := by decide +kernel
theorem d_L_law_550 : decode b_L_law 550 = .ok (.ireturn, 1) := by decide +kernel
theorem d_L_law_551 : decode b_L_law 551 = .ok (.iinc 3 5, 3) := by decide +kernel
theorem d_L_law_554 : decode b_L_law 554 = .ok (.goto (-526), 3) := by decide +kernel
theorem d_L_law_557 : decode b_L_law 557 = .ok (.iconst 1, 1) := by decide +kernel
theorem d_L_law_558 : decode b_L_law 558 = .ok (.ireturn, 1) := by decide +kernel
end
section
theorem kd_X_init : y_X_init.cls ≠ "java/lang/invoke/MethodHandle" ∧ y_X_init.cls ≠ "java/lang/invoke/VarHandle" ∧ (parseMethodDescriptor y_X_init.desc).map (fun d => d.parameters.length) = some 1 := by decide +kernel
theorem kd_X_window : y_X_window.cls ≠ "java/lang/invoke/MethodHandle" ∧ y_X_window.cls ≠ "java/lang/invoke/VarHandle" ∧ (parseMethodDescriptor y_X_window.desc).map (fun d => d.parameters.length) = some 0 := by decide +kernel
theorem kd_X_receive : y_X_receive.cls ≠ "java/lang/invoke/MethodHandle" ∧ y_X_receive.cls ≠ "java/lang/invoke/VarHandle" ∧ (parseMethodDescriptor y_X_receive.desc).map (fun d => d.parameters.length) = some 3 := by decide +kernel
theorem kd_X_isLine : y_X_isLine.cls ≠ "java/lang/invoke/MethodHandle" ∧ y_X_isLine.cls ≠ "java/lang/invoke/VarHandle" ∧ (parseMethodDescriptor y_X_isLine.desc).map (fun d => d.parameters.length) = some 1 := by decide +kernel
theorem kd_X_isLow : y_X_isLow.cls ≠ "java/lang/invoke/MethodHandle" ∧ y_X_isLow.cls ≠ "java/lang/invoke/VarHandle" ∧ (parseMethodDescriptor y_X_isLow.desc).map (fun d => d.parameters.length) = some 1 := by decide +kernel
theorem kd_X_judge : y_X_judge.cls ≠ "java/lang/invoke/MethodHandle" ∧ y_X_judge.cls ≠ "java/lang/invoke/VarHandle" ∧ (parseMethodDescriptor y_X_judge.desc).map (fun d => d.parameters.length) = some 3 := by decide +kernel
theorem kd_X_infer : y_X_infer.cls ≠ "java/lang/invoke/MethodHandle" ∧ y_X_infer.cls ≠ "java/lang/invoke/VarHandle" ∧ (parseMethodDescriptor y_X_infer.desc).map (fun d => d.parameters.length) = some 2 := by decide +kernel
theorem kd_X_isSeen : y_X_isSeen.cls ≠ "java/lang/invoke/MethodHandle" ∧ y_X_isSeen.cls ≠ "java/lang/invoke/VarHandle" ∧ (parseMethodDescriptor y_X_isSeen.desc).map (fun d => d.parameters.length) = some 2 := by decide +kernel
theorem kd_X_topOf : y_X_topOf.cls ≠ "java/lang/invoke/MethodHandle" ∧ y_X_topOf.cls ≠ "java/lang/invoke/VarHandle" ∧ (parseMethodDescriptor y_X_topOf.desc).map (fun d => d.parameters.length) = some 1 := by decide +kernel
theorem kd_X_accept : y_X_accept.cls ≠ "java/lang/invoke/MethodHandle" ∧ y_X_accept.cls ≠ "java/lang/invoke/VarHandle" ∧ (parseMethodDescriptor y_X_accept.desc).map (fun d => d.parameters.length) = some 2 := by decide +kernel
theorem kd_X_place : y_X_place.cls ≠ "java/lang/invoke/MethodHandle" ∧ y_X_place.cls ≠ "java/lang/invoke/VarHandle" ∧ (parseMethodDescriptor y_X_place.desc).map (fun d => d.parameters.length) = some 2 := by decide +kernel
theorem kd_X_burst : y_X_burst.cls ≠ "java/lang/invoke/MethodHandle" ∧ y_X_burst.cls ≠ "java/lang/invoke/VarHandle" ∧ (parseMethodDescriptor y_X_burst.desc).map (fun d => d.parameters.length) = some 4 := by decide +kernel
theorem kd_X_rekey : y_X_rekey.cls ≠ "java/lang/invoke/MethodHandle" ∧ y_X_rekey.cls ≠ "java/lang/invoke/VarHandle" ∧ (parseMethodDescriptor y_X_rekey.desc).map (fun d => d.parameters.length) = some 1 := by decide +kernel
theorem kd_X_limits : y_X_limits.cls ≠ "java/lang/invoke/MethodHandle" ∧ y_X_limits.cls ≠ "java/lang/invoke/VarHandle" ∧ (parseMethodDescriptor y_X_limits.desc).map (fun d => d.parameters.length) = some 3 := by decide +kernel
theorem kd_X_top : y_X_top.cls ≠ "java/lang/invoke/MethodHandle" ∧ y_X_top.cls ≠ "java/lang/invoke/VarHandle" ∧ (parseMethodDescriptor y_X_top.desc).map (fun d => d.parameters.length) = some 1 := by decide +kernel
theorem kd_X_accepted : y_X_accepted.cls ≠ "java/lang/invoke/MethodHandle" ∧ y_X_accepted.cls ≠ "java/lang/invoke/VarHandle" ∧ (parseMethodDescriptor y_X_accepted.desc).map (fun d => d.parameters.length) = some 1 := by decide +kernel
theorem kd_X_dead : y_X_dead.cls ≠ "java/lang/invoke/MethodHandle" ∧ y_X_dead.cls ≠ "java/lang/invoke/VarHandle" ∧ (parseMethodDescriptor y_X_dead.desc).map (fun d => d.parameters.length) = some 1 := by decide +kernel
theorem kd_X_aging : y_X_aging.cls ≠ "java/lang/invoke/MethodHandle" ∧ y_X_aging.cls ≠ "java/lang/invoke/VarHandle" ∧ (parseMethodDescriptor y_X_aging.desc).map (fun d => d.parameters.length) = some 1 := by decide +kernel
theorem kd_X_count : y_X_count.cls ≠ "java/lang/invoke/MethodHandle" ∧ y_X_count.cls ≠ "java/lang/invoke/VarHandle" ∧ (parseMethodDescriptor y_X_count.desc).map (fun d => d.parameters.length) = some 2 := by decide +kernel
theorem kd_X_numberFor : y_X_numberFor.cls ≠ "java/lang/invoke/MethodHandle" ∧ y_X_numberFor.cls ≠ "java/lang/invoke/VarHandle" ∧ (parseMethodDescriptor y_X_numberFor.desc).map (fun d => d.parameters.length) = some 2 := by decide +kernel
theorem kd_X_has : y_X_has.cls ≠ "java/lang/invoke/MethodHandle" ∧ y_X_has.cls ≠ "java/lang/invoke/VarHandle" ∧ (parseMethodDescriptor y_X_has.desc).map (fun d => d.parameters.length) = some 2 := by decide +kernel
theorem kd_X_inWindow : y_X_inWindow.cls ≠ "java/lang/invoke/MethodHandle" ∧ y_X_inWindow.cls ≠ "java/lang/invoke/VarHandle" ∧ (parseMethodDescriptor y_X_inWindow.desc).map (fun d => d.parameters.length) = some 1 := by decide +kernel
theorem kd_X_ones : y_X_ones.cls ≠ "java/lang/invoke/MethodHandle" ∧ y_X_ones.cls ≠ "java/lang/invoke/VarHandle" ∧ (parseMethodDescriptor y_X_ones.desc).map (fun d => d.parameters.length) = some 1 := by decide +kernel
theorem kd_X_lost : y_X_lost.cls ≠ "java/lang/invoke/MethodHandle" ∧ y_X_lost.cls ≠ "java/lang/invoke/VarHandle" ∧ (parseMethodDescriptor y_X_lost.desc).map (fun d => d.parameters.length) = some 1 := by decide +kernel
theorem kd_X_gap : y_X_gap.cls ≠ "java/lang/invoke/MethodHandle" ∧ y_X_gap.cls ≠ "java/lang/invoke/VarHandle" ∧ (parseMethodDescriptor y_X_gap.desc).map (fun d => d.parameters.length) = some 1 := by decide +kernel
theorem kd_L_cell : y_L_cell.cls ≠ "java/lang/invoke/MethodHandle" ∧ y_L_cell.cls ≠ "java/lang/invoke/VarHandle" ∧ (parseMethodDescriptor y_L_cell.desc).map (fun d => d.parameters.length) = some 2 := by decide +kernel
theorem kd_M_init : y_M_init.cls ≠ "java/lang/invoke/MethodHandle" ∧ y_M_init.cls ≠ "java/lang/invoke/VarHandle" ∧ (parseMethodDescriptor y_M_init.desc).map (fun d => d.parameters.length) = some 1 := by decide +kernel
theorem kd_M_window : y_M_window.cls ≠ "java/lang/invoke/MethodHandle" ∧ y_M_window.cls ≠ "java/lang/invoke/VarHandle" ∧ (parseMethodDescriptor y_M_window.desc).map (fun d => d.parameters.length) = some 0 := by decide +kernel
theorem kd_M_receive : y_M_receive.cls ≠ "java/lang/invoke/MethodHandle" ∧ y_M_receive.cls ≠ "java/lang/invoke/VarHandle" ∧ (parseMethodDescriptor y_M_receive.desc).map (fun d => d.parameters.length) = some 3 := by decide +kernel
theorem kd_M_bad : y_M_bad.cls ≠ "java/lang/invoke/MethodHandle" ∧ y_M_bad.cls ≠ "java/lang/invoke/VarHandle" ∧ (parseMethodDescriptor y_M_bad.desc).map (fun d => d.parameters.length) = some 1 := by decide +kernel
theorem kd_M_verdict : y_M_verdict.cls ≠ "java/lang/invoke/MethodHandle" ∧ y_M_verdict.cls ≠ "java/lang/invoke/VarHandle" ∧ (parseMethodDescriptor y_M_verdict.desc).map (fun d => d.parameters.length) = some 3 := by decide +kernel
theorem kd_M_taken : y_M_taken.cls ≠ "java/lang/invoke/MethodHandle" ∧ y_M_taken.cls ≠ "java/lang/invoke/VarHandle" ∧ (parseMethodDescriptor y_M_taken.desc).map (fun d => d.parameters.length) = some 2 := by decide +kernel
theorem kd_M_greatest : y_M_greatest.cls ≠ "java/lang/invoke/MethodHandle" ∧ y_M_greatest.cls ≠ "java/lang/invoke/VarHandle" ∧ (parseMethodDescriptor y_M_greatest.desc).map (fun d => d.parameters.length) = some 1 := by decide +kernel
theorem kd_M_holds : y_M_holds.cls ≠ "java/lang/invoke/MethodHandle" ∧ y_M_holds.cls ≠ "java/lang/invoke/VarHandle" ∧ (parseMethodDescriptor y_M_holds.desc).map (fun d => d.parameters.length) = some 2 := by decide +kernel
theorem kd_M_burst : y_M_burst.cls ≠ "java/lang/invoke/MethodHandle" ∧ y_M_burst.cls ≠ "java/lang/invoke/VarHandle" ∧ (parseMethodDescriptor y_M_burst.desc).map (fun d => d.parameters.length) = some 4 := by decide +kernel
theorem kd_M_rekey : y_M_rekey.cls ≠ "java/lang/invoke/MethodHandle" ∧ y_M_rekey.cls ≠ "java/lang/invoke/VarHandle" ∧ (parseMethodDescriptor y_M_rekey.desc).map (fun d => d.parameters.length) = some 1 := by decide +kernel
theorem kd_M_limits : y_M_limits.cls ≠ "java/lang/invoke/MethodHandle" ∧ y_M_limits.cls ≠ "java/lang/invoke/VarHandle" ∧ (parseMethodDescriptor y_M_limits.desc).map (fun d => d.parameters.length) = some 3 := by decide +kernel
theorem kd_M_dead : y_M_dead.cls ≠ "java/lang/invoke/MethodHandle" ∧ y_M_dead.cls ≠ "java/lang/invoke/VarHandle" ∧ (parseMethodDescriptor y_M_dead.desc).map (fun d => d.parameters.length) = some 1 := by decide +kernel
theorem kd_M_top : y_M_top.cls ≠ "java/lang/invoke/MethodHandle" ∧ y_M_top.cls ≠ "java/lang/invoke/VarHandle" ∧ (parseMethodDescriptor y_M_top.desc).map (fun d => d.parameters.length) = some 1 := by decide +kernel
theorem kd_M_accepted : y_M_accepted.cls ≠ "java/lang/invoke/MethodHandle" ∧ y_M_accepted.cls ≠ "java/lang/invoke/VarHandle" ∧ (parseMethodDescriptor y_M_accepted.desc).map (fun d => d.parameters.length) = some 1 := by decide +kernel
theorem kd_M_aging : y_M_aging.cls ≠ "java/lang/invoke/MethodHandle" ∧ y_M_aging.cls ≠ "java/lang/invoke/VarHandle" ∧ (parseMethodDescriptor y_M_aging.desc).map (fun d => d.parameters.length) = some 1 := by decide +kernel
theorem kd_M_count : y_M_count.cls ≠ "java/lang/invoke/MethodHandle" ∧ y_M_count.cls ≠ "java/lang/invoke/VarHandle" ∧ (parseMethodDescriptor y_M_count.desc).map (fun d => d.parameters.length) = some 2 := by decide +kernel
theorem kd_M_numberFor : y_M_numberFor.cls ≠ "java/lang/invoke/MethodHandle" ∧ y_M_numberFor.cls ≠ "java/lang/invoke/VarHandle" ∧ (parseMethodDescriptor y_M_numberFor.desc).map (fun d => d.parameters.length) = some 2 := by decide +kernel
theorem kd_M_has : y_M_has.cls ≠ "java/lang/invoke/MethodHandle" ∧ y_M_has.cls ≠ "java/lang/invoke/VarHandle" ∧ (parseMethodDescriptor y_M_has.desc).map (fun d => d.parameters.length) = some 2 := by decide +kernel
theorem kd_M_inWindow : y_M_inWindow.cls ≠ "java/lang/invoke/MethodHandle" ∧ y_M_inWindow.cls ≠ "java/lang/invoke/VarHandle" ∧ (parseMethodDescriptor y_M_inWindow.desc).map (fun d => d.parameters.length) = some 1 := by decide +kernel
theorem kd_M_lost : y_M_lost.cls ≠ "java/lang/invoke/MethodHandle" ∧ y_M_lost.cls ≠ "java/lang/invoke/VarHandle" ∧ (parseMethodDescriptor y_M_lost.desc).map (fun d => d.parameters.length) = some 1 := by decide +kernel
theorem kd_M_gap : y_M_gap.cls ≠ "java/lang/invoke/MethodHandle" ∧ y_M_gap.cls ≠ "java/lang/invoke/VarHandle" ∧ (parseMethodDescriptor y_M_gap.desc).map (fun d => d.parameters.length) = some 1 := by decide +kernel
end
section
/-! ===== my rows: arrays by a Nat index, names of computed values, calls and starts over ONE word list ===== -/
theorem ea_gw {w : Cond} (h : w ∈ ea_tb) : w ∈ ea_tb ∧ ((w.onTables && w.keeps) = true ∨ ∃ ty, w = .arrayClass ty) := ⟨h, good_of_word (List.mem_filter.mp h).2⟩
theorem ea_good {w : Cond} (h : w ∈ ea_tb) : GoodIn ea_tb (w :: ea_tb) := by
  intro x hx
  rcases List.mem_cons.mp hx with rfl | hx
  · exact ea_gw h
  · exact ea_gw hx
theorem ea_hts {args : Array Value} {s : State} (h : ∀ w ∈ lw_tbl, w.before args s = true) : ∀ w ∈ ea_tb, w.before args s = true := fun w hw => h w (List.mem_filter.mp hw).1
/-- room of a method k calls deep -/
def ea_rm (k : Nat) : Room := { frames := k, cells := 0, slots := 0, locals := 27 * k }
/-- a world and its tables, at a state -/
def ea_B (D : va_G) (tys : List (ClassId × FieldType)) (ws : va_W) (U : State) : Prop := va_P D ea_cl ws U.heap ∧ va_K D ea_cl tys U
section EAR
variable {p : Program} {l : Launch} {e : Env} {R : Room} {s : State} {m : MethodId} {args : Array Value} {below : List Frame} {meth : Method} {c : Code} {H : Heap} {locs : List Loc} {cells slots : Nat} {Q : State → Prop}
variable {cc : ByteArray} {pc : Nat} {ls : Array Slot} {rest st : List Value} {D : va_G} {cl : List vw_C} {A : Nat → Prop} {a : Nat} {tys : List (ClassId × FieldType)} {ws : va_W} {H0 : Heap}
theorem ea_ti {x y : Int32} (h : x = y) (k : W p l e R s m args below meth c H locs cells slots Q (F0 m pc ls (.int y :: rest))) : W p l e R s m args below meth c H locs cells slots Q (F0 m pc ls (.int x :: rest)) := h ▸ k
theorem ea_tl {x y : Int64} (h : x = y) (k : W p l e R s m args below meth c H locs cells slots Q (F0 m pc ls (.long y :: rest))) : W p l e R s m args below meth c H locs cells slots Q (F0 m pc ls (.long x :: rest)) := h ▸ k
theorem ea_ild (hexec : p.tables.exec = Jvm.exec) (hb : c.code = cc) (hK : va_K D cl tys s) (hP : va_P D cl ws H) (q0 t0 : Nat) {cA : ClassId} {n : Nat} {f : Nat → Int32} (ha : ws[q0]? = some (a, .inl (cA, n, .inl f))) (ht : tys[t0]? = some (cA, .int)) {i : Int32} (j : Nat) (hi : i = nI j) (hj : j < n) (hn : n < 2 ^ 31) {v : Int32} (hv : f j = v) (hdg : decode cc pc = .ok (.iaload, 1))
    (kk : W p l e R s m args below meth c H locs cells slots Q (F0 m (pc + 1) ls (.int v :: rest))) : W p l e R s m args below meth c H locs cells slots Q (F0 m pc ls (.int i :: .ref a :: rest)) := by
  subst hi
  refine va_iald hexec hb hK hP q0 t0 ha ht (vp_in_nI hj hn) hdg ?_
  rw [nI_clamp (Nat.lt_trans hj hn), hv]
  exact kk
theorem ea_lld (hexec : p.tables.exec = Jvm.exec) (hb : c.code = cc) (hK : va_K D cl tys s) (hP : va_P D cl ws H) (q0 t0 : Nat) {cA : ClassId} {n : Nat} {f : Nat → Int64} (ha : ws[q0]? = some (a, .inl (cA, n, .inr (.inl f)))) (ht : tys[t0]? = some (cA, .long)) {i : Int32} (j : Nat) (hi : i = nI j) (hj : j < n) (hn : n < 2 ^ 31) {v : Int64} (hv : f j = v) (hdg : decode cc pc = .ok (.laload, 1))
    (kk : W p l e R s m args below meth c H locs cells slots Q (F0 m (pc + 1) ls (.long v :: rest))) : W p l e R s m args below meth c H locs cells slots Q (F0 m pc ls (.int i :: .ref a :: rest)) := by
  subst hi
  refine va_lald hexec hb hK hP q0 t0 ha ht (vp_in_nI hj hn) hdg ?_
  rw [nI_clamp (Nat.lt_trans hj hn), hv]
  exact kk
theorem ea_ist (hexec : p.tables.exec = Jvm.exec) (hb : c.code = cc) (hK : va_K D cl tys s) (hP : va_P D cl ws H) (hD : va_D A ws) (hS : va_S A H0 H locs) (q0 t0 : Nat) {cA : ClassId} {n : Nat} {f : Nat → Int32} (ha : ws[q0]? = some (a, .inl (cA, n, .inl f))) (ht : tys[t0]? = some (cA, .int)) {i x : Int32} (j : Nat) (hi : i = nI j) (hj : j < n) (hn : n < 2 ^ 31) (hdg : decode cc pc = .ok (.iastore, 1))
    (kk : ∀ (f' : Nat → Int32) (H1 : Heap) (locs1 : List Loc), f' = upd f j x → va_P D cl (ws.set q0 (a, .inl (cA, n, .inl f'))) H1 → va_D A (ws.set q0 (a, .inl (cA, n, .inl f'))) → va_S A H0 H1 locs1 → W p l e R s m args below meth c H1 locs1 cells slots Q (F0 m (pc + 1) ls rest)) : W p l e R s m args below meth c H locs cells slots Q (F0 m pc ls (.int x :: .int i :: .ref a :: rest)) := by
  subst hi
  refine va_iast hexec hb hK hP hD hS q0 t0 ha ht (vp_in_nI hj hn) hdg fun H1 locs1 h1 h2 h3 => ?_
  rw [nI_clamp (Nat.lt_trans hj hn)] at h1 h2
  exact kk _ H1 locs1 rfl h1 h2 h3
theorem ea_lst (hexec : p.tables.exec = Jvm.exec) (hb : c.code = cc) (hK : va_K D cl tys s) (hP : va_P D cl ws H) (hD : va_D A ws) (hS : va_S A H0 H locs) (q0 t0 : Nat) {cA : ClassId} {n : Nat} {f : Nat → Int64} (ha : ws[q0]? = some (a, .inl (cA, n, .inr (.inl f)))) (ht : tys[t0]? = some (cA, .long)) {i : Int32} {x : Int64} (j : Nat) (hi : i = nI j) (hj : j < n) (hn : n < 2 ^ 31) (hdg : decode cc pc = .ok (.lastore, 1))
    (kk : ∀ (f' : Nat → Int64) (H1 : Heap) (locs1 : List Loc), f' = vp_updL f j x → va_P D cl (ws.set q0 (a, .inl (cA, n, .inr (.inl f')))) H1 → va_D A (ws.set q0 (a, .inl (cA, n, .inr (.inl f')))) → va_S A H0 H1 locs1 → W p l e R s m args below meth c H1 locs1 cells slots Q (F0 m (pc + 1) ls rest)) : W p l e R s m args below meth c H locs cells slots Q (F0 m pc ls (.long x :: .int i :: .ref a :: rest)) := by
  subst hi
  refine va_last hexec hb hK hP hD hS q0 t0 ha ht (vp_in_nI hj hn) hdg fun H1 locs1 h1 h2 h3 => ?_
  rw [nI_clamp (Nat.lt_trans hj hn)] at h1 h2
  exact kk _ H1 locs1 rfl h1 h2 h3
/-- a new array of a class whose array class is known: the tables stay as they are -/
theorem ea_newa (hexec : p.tables.exec = Jvm.exec) (hb : c.code = cc) {atype : ArrayType} (harr : (Cond.arrayClass (newarray.typeOf atype)).before args s = true) {ty : FieldType} (hty : newarray.typeOf atype = ty) (hnob : ∀ C, ty ≠ .object C) (hK : va_K D cl tys s) (hP : va_P D cl ws H) (hD : va_D A ws) (hS : va_S A H0 H locs) (hA : ∀ q, H0.size ≤ q → A q) (t0 : Nat) {cA : ClassId} (ht : tys[t0]? = some (cA, ty))
    {n : Int32} {N' : Nat} {a0 : vp_A} (ha : ∀ cA : ClassId, vp_cell cA a0 = arrV cA N' (fun _ => defaultValue ty)) (hn : ¬ n < 0) (hN : n.toNatClampNeg = N') (hbytes : N' * componentBytes ty ≤ 536870912) (hcells : cells + 1 ≤ R.cells) (hslots : slots + N' ≤ R.slots) (hdg : decode cc pc = .ok (.newarray atype, 2))
    (kk : ∀ (q : Nat) (H1 : Heap), va_P D cl (ws ++ [(q, .inl (cA, a0))]) H1 → va_D A (ws ++ [(q, .inl (cA, a0))]) → va_S A H0 H1 locs →
      W p l e R s m args below meth c H1 locs (cells + 1) (slots + N') Q (F0 m (pc + 2) ls (.ref q :: rest))) : W p l e R s m args below meth c H locs cells slots Q (F0 m pc ls (.int n :: rest)) := by
  refine va_newa hexec hb harr hty hK hP hD hS hA ha hn hN hbytes hcells hslots hdg fun q cB H1 hK1 hP1 hD1 hS1 => ?_
  have h1 : va_RA s cA ty := (hK.2 t0 _ ht).2
  have h2 : va_RA s cB ty := (hK1.2 tys.length (cB, ty) (by rw [List.getElem?_append_right (Nat.le_refl _), Nat.sub_self]; rfl)).2
  have hcc : cB = cA := by
    cases ty with
    | object C => exact absurd rfl (hnob C)
    | _ => exact Option.some.inj (h2.symm.trans h1)
  subst hcc
  exact kk q H1 hP1 hD1 hS1
/-- a call that only reads, on an object of a world -/
theorem ea_callR {own : String} {nL index maxL j : Nat} {y : MethodName} {bytes : ByteArray} {ret : Option FieldType} {As : List Value} {r : Int32} {b ci N : Nat} {T : u_T} {fs : List Value}
    (S : CallFix p m c cc nL s args ea_tb own) (hK : va_K D ea_cl tys s) (hP : va_P D ea_cl ws H) (he : ws[0]? = some (b, .inr (ci, fs))) (hc : ea_cl[ci]? = some (y.cls, T, N))
    (hM : Met l y (.code y bytes maxL ret :: ea_tb) (ea_rm j) (va_Pc (.ref b :: As) (ea_B D tys ws)) (QcRead r) 0 0 (fun _ => False))
    (hw : Cond.methodLink own index y ∈ ea_tb ∧ Cond.instanceMethod y ∈ ea_tb ∧ Cond.selects y.cls y y ∈ ea_tb ∧ Cond.initialized y.cls ∈ ea_tb ∧ Cond.code y bytes maxL ret ∈ ea_tb)
    (hd : y.cls ≠ "java/lang/invoke/MethodHandle" ∧ y.cls ≠ "java/lang/invoke/VarHandle" ∧ (parseMethodDescriptor y.desc).map (fun d => d.parameters.length) = some As.length)
    (hm : maxL ≤ 8) (hR : j + 1 ≤ R.frames ∧ 27 * (j + 1) ≤ R.locals) (hl : ls.size = nL) (hst : st = As.reverse ++ .ref b :: rest) (hW : (rest.map fun v => v.category).sum ≤ 8) (hdg : decode cc pc = .ok (.invokevirtual index, 3)) (hf : cells ≤ R.cells ∧ slots ≤ R.slots)
    (kk : W p l e R s m args below meth c H locs cells slots Q (F0 m (pc + 3) ls (.int r :: rest))) : W p l e R s m args below meth c H locs cells slots Q (F0 m pc ls st) := by
  obtain ⟨w1, w2, w3, w4, w5⟩ := hw
  have hts := S.2.2.2.2
  refine W.callR (W.runV (As := As) (rest := rest) (n := As.length) (C := y.cls) S hM ⟨callB_of _ hts (ea_good w5) rfl rfl rfl (hts _ w4) (hts _ w1) hd ⟨hR.1, ?_⟩, hts _ w2, hts _ w3⟩ ⟨?_, va_recv hK hP hc he, ?_⟩ rfl rfl hl hst (lv_room hW) hdg hf) kk
  · show 8 + (maxL + 11) + 27 * j ≤ R.locals
    have := hR.2
    omega
  · exact fun a U g mk q => ⟨q.1, q.2.1, va_K.moved (u := U) (U := U.calling g mk a) (Vm.Alike.refl U.vm) q.2.2⟩
  · exact fun U hU hW => ⟨rfl, by rw [hU]; exact hP, va_K.moved hW.alike hK⟩
/-- a static call that needs nothing of the heap -/
theorem ea_callS {own : String} {nL index maxL j : Nat} {y : MethodName} {bytes : ByteArray} {ret : Option FieldType} {As : List Value} {r : Int32}
    (S : CallFix p m c cc nL s args ea_tb own)
    (hM : Met l y (.code y bytes maxL ret :: ea_tb) (ea_rm j) (va_Pc As (fun _ => True)) (QcRead r) 0 0 (fun _ => False))
    (hw : Cond.methodLink own index y ∈ ea_tb ∧ Cond.static y ∈ ea_tb ∧ Cond.initialized y.cls ∈ ea_tb ∧ Cond.code y bytes maxL ret ∈ ea_tb)
    (hd : y.cls ≠ "java/lang/invoke/MethodHandle" ∧ y.cls ≠ "java/lang/invoke/VarHandle" ∧ (parseMethodDescriptor y.desc).map (fun d => d.parameters.length) = some As.length)
    (hm : maxL ≤ 8) (hR : j + 1 ≤ R.frames ∧ 27 * (j + 1) ≤ R.locals) (hl : ls.size = nL) (hst : st = As.reverse ++ rest) (hW : (rest.map fun v => v.category).sum ≤ 8) (hdg : decode cc pc = .ok (.invokestatic index, 3)) (hf : cells ≤ R.cells ∧ slots ≤ R.slots)
    (kk : W p l e R s m args below meth c H locs cells slots Q (F0 m (pc + 3) ls (.int r :: rest))) : W p l e R s m args below meth c H locs cells slots Q (F0 m pc ls st) := by
  obtain ⟨w1, w2, w4, w5⟩ := hw
  have hts := S.2.2.2.2
  refine W.callR (W.runS (As := As) (rest := rest) (n := As.length) S hM ⟨callB_of _ hts (ea_good w5) rfl rfl rfl (hts _ w4) (hts _ w1) hd ⟨hR.1, ?_⟩, hts _ w2⟩ ⟨?_, ?_⟩ rfl rfl hl hst (lv_room hW) hdg hf) kk
  · show 8 + (maxL + 11) + 27 * j ≤ R.locals
    have := hR.2
    omega
  · exact fun a U g mk q => q
  · exact fun U hU hW => ⟨rfl, trivial⟩
/-- a call that writes cells of A1 alone, and answers an int -/
theorem ea_callW {own : String} {nL index maxL j : Nat} {y : MethodName} {bytes : ByteArray} {ret : Option FieldType} {As : List Value} {b ci N : Nat} {T : u_T} {fs : List Value} {Su : Type} {post : Int32 → Su → Prop} {PU : Su → Heap → Prop} {A1 : Nat → Prop}
    (S : CallFix p m c cc nL s args ea_tb own) (hK : va_K D ea_cl tys s) (hP : va_P D ea_cl ws H) (he : ws[0]? = some (b, .inr (ci, fs))) (hc : ea_cl[ci]? = some (y.cls, T, N))
    (hM : Met l y (.code y bytes maxL ret :: ea_tb) (ea_rm j) (va_Pc (.ref b :: As) (ea_B D tys ws)) (va_Qi post (fun u t => PU u t.heap) A1) 0 0 A1)
    (hw : Cond.methodLink own index y ∈ ea_tb ∧ Cond.instanceMethod y ∈ ea_tb ∧ Cond.selects y.cls y y ∈ ea_tb ∧ Cond.initialized y.cls ∈ ea_tb ∧ Cond.code y bytes maxL ret ∈ ea_tb)
    (hd : y.cls ≠ "java/lang/invoke/MethodHandle" ∧ y.cls ≠ "java/lang/invoke/VarHandle" ∧ (parseMethodDescriptor y.desc).map (fun d => d.parameters.length) = some As.length)
    (hm : maxL ≤ 8) (hR : j + 1 ≤ R.frames ∧ 27 * (j + 1) ≤ R.locals) (hl : ls.size = nL) (hst : st = As.reverse ++ .ref b :: rest) (hW : (rest.map fun v => v.category).sum ≤ 8) (hdg : decode cc pc = .ok (.invokevirtual index, 3)) (hf : cells ≤ R.cells ∧ slots ≤ R.slots)
    (hS : va_S A H0 H locs) (hA : ∀ q, A1 q → A q)
    (kk : ∀ (r : Int32) (u : Su) (H1 : Heap) (locs1 : List Loc), post r u → PU u H1 → H.size ≤ H1.size → (∀ q : Nat, q < H.size → ¬ A1 q → H1[q]? = H[q]?) → va_S A H0 H1 locs1 → W p l e R s m args below meth c H1 locs1 cells slots Q (F0 m (pc + 3) ls (.int r :: rest))) : W p l e R s m args below meth c H locs cells slots Q (F0 m pc ls st) := by
  obtain ⟨w1, w2, w3, w4, w5⟩ := hw
  have hts := S.2.2.2.2
  refine va_calli (va_runV (As := As) (rest := rest) (n := As.length) (C := y.cls) S hM ⟨callB_of _ hts (ea_good w5) rfl rfl rfl (hts _ w4) (hts _ w1) hd ⟨hR.1, ?_⟩, hts _ w2, hts _ w3⟩ ⟨?_, va_recv hK hP hc he, ?_⟩ rfl rfl hl hst (lv_room hW) hdg hf) hS (fun q _ h => hA q h) hA (fun r u t H1 locs1 ht hvm hpo hB hz hk hS1 => kk r u H1 locs1 hpo (ht ▸ hB) hz hk hS1)
  · show 8 + (maxL + 11) + 27 * j ≤ R.locals
    have := hR.2
    omega
  · exact fun a U g mk q => ⟨q.1, q.2.1, va_K.moved (u := U) (U := U.calling g mk a) (Vm.Alike.refl U.vm) q.2.2⟩
  · exact fun U hU hW => ⟨rfl, by rw [hU]; exact hP, va_K.moved hW.alike hK⟩
/-- the same, and answers nothing -/
theorem ea_callV {own : String} {nL index maxL j : Nat} {y : MethodName} {bytes : ByteArray} {ret : Option FieldType} {As : List Value} {b ci N : Nat} {T : u_T} {fs : List Value} {Su : Type} {post : Su → Prop} {PU : Su → Heap → Prop} {A1 : Nat → Prop}
    (S : CallFix p m c cc nL s args ea_tb own) (hK : va_K D ea_cl tys s) (hP : va_P D ea_cl ws H) (he : ws[0]? = some (b, .inr (ci, fs))) (hc : ea_cl[ci]? = some (y.cls, T, N))
    (hM : Met l y (.code y bytes maxL ret :: ea_tb) (ea_rm j) (va_Pc (.ref b :: As) (ea_B D tys ws)) (va_Qv post (fun u t => PU u t.heap) A1) 0 0 A1)
    (hw : Cond.methodLink own index y ∈ ea_tb ∧ Cond.instanceMethod y ∈ ea_tb ∧ Cond.selects y.cls y y ∈ ea_tb ∧ Cond.initialized y.cls ∈ ea_tb ∧ Cond.code y bytes maxL ret ∈ ea_tb)
    (hd : y.cls ≠ "java/lang/invoke/MethodHandle" ∧ y.cls ≠ "java/lang/invoke/VarHandle" ∧ (parseMethodDescriptor y.desc).map (fun d => d.parameters.length) = some As.length)
    (hm : maxL ≤ 8) (hR : j + 1 ≤ R.frames ∧ 27 * (j + 1) ≤ R.locals) (hl : ls.size = nL) (hst : st = As.reverse ++ .ref b :: rest) (hW : (rest.map fun v => v.category).sum ≤ 8) (hdg : decode cc pc = .ok (.invokevirtual index, 3)) (hf : cells ≤ R.cells ∧ slots ≤ R.slots)
    (hS : va_S A H0 H locs) (hA : ∀ q, A1 q → A q)
    (kk : ∀ (u : Su) (H1 : Heap) (locs1 : List Loc), post u → PU u H1 → H.size ≤ H1.size → (∀ q : Nat, q < H.size → ¬ A1 q → H1[q]? = H[q]?) → va_S A H0 H1 locs1 → W p l e R s m args below meth c H1 locs1 cells slots Q (F0 m (pc + 3) ls rest)) : W p l e R s m args below meth c H locs cells slots Q (F0 m pc ls st) := by
  obtain ⟨w1, w2, w3, w4, w5⟩ := hw
  have hts := S.2.2.2.2
  refine va_callv (va_runV (As := As) (rest := rest) (n := As.length) (C := y.cls) S hM ⟨callB_of _ hts (ea_good w5) rfl rfl rfl (hts _ w4) (hts _ w1) hd ⟨hR.1, ?_⟩, hts _ w2, hts _ w3⟩ ⟨?_, va_recv hK hP hc he, ?_⟩ rfl rfl hl hst (lv_room hW) hdg hf) hS (fun q _ h => hA q h) hA (fun u t H1 locs1 ht hvm hpo hB hz hk hS1 => kk u H1 locs1 hpo (ht ▸ hB) hz hk hS1)
  · show 8 + (maxL + 11) + 27 * j ≤ R.locals
    have := hR.2
    omega
  · exact fun a U g mk q => ⟨q.1, q.2.1, va_K.moved (u := U) (U := U.calling g mk a) (Vm.Alike.refl U.vm) q.2.2⟩
  · exact fun U hU hW => ⟨rfl, by rw [hU]; exact hP, va_K.moved hW.alike hK⟩
/-- ends -/
theorem ea_retI {v r : Int32} (hexec : p.tables.exec = Jvm.exec) (hb : c.code = cc) (hr : meth.sig.returnType = some .int) (hlocks : meth.locks = false) (hv : v = r) (hdg : decode cc pc = .ok (.ireturn, 1)) : W p l e R s m args below meth c s.heap [] 0 0 (MQ below (QcRead r) args s 0 0 (fun _ => False)) (F0 m pc ls [.int v]) := by
  subst hv
  exact W.iret (v := v) hexec hb hr (fun t ht hW => ⟨rfl, ht⟩) (fun q hq => by cases hq) hdg hlocks
theorem ea_retZ {v r : Int32} (hexec : p.tables.exec = Jvm.exec) (hb : c.code = cc) (hr : meth.sig.returnType = some .boolean) (hlocks : meth.locks = false) (hv : v = r) (hn : r = 0 ∨ r = 1) (hdg : decode cc pc = .ok (.ireturn, 1)) : W p l e R s m args below meth c s.heap [] 0 0 (MQ below (QcRead r) args s 0 0 (fun _ => False)) (F0 m pc ls [.int v]) := by
  subst hv
  refine W.zret (v := v) (ty := .boolean) hexec hb hr ?_ (fun t ht hW => ⟨rfl, ht⟩) (fun q hq => by cases hq) hdg hlocks
  rcases hn with rfl | rfl <;> decide
theorem ea_retW {v : Int32} {Su : Type} {post : Int32 → Su → Prop} {PU : Su → Heap → Prop} (u : Su) (hexec : p.tables.exec = Jvm.exec) (hb : c.code = cc) (hr : meth.sig.returnType = some .int) (hlocks : meth.locks = false) (hS : va_S A s.heap H locs) (hp : post v u) (hP : PU u H) (hdg : decode cc pc = .ok (.ireturn, 1)) : W p l e R s m args below meth c H locs 0 0 (MQ below (va_Qi post (fun u t => PU u t.heap) A) args s 0 0 A) (F0 m pc ls [.int v]) :=
  W.iret (v := v) hexec hb hr (fun t ht hW => ⟨⟨v, u, rfl, hp, by show PU u t.heap; rw [ht]; exact hP⟩, hS.F ht⟩) hS.2.2 hdg hlocks
theorem ea_retV {Su : Type} {post : Su → Prop} {PU : Su → Heap → Prop} (u : Su) (hexec : p.tables.exec = Jvm.exec) (hb : c.code = cc) (hr : meth.sig.returnType = none) (hlocks : meth.locks = false) (hS : va_S A s.heap H locs) (hp : post u) (hP : PU u H) (hdg : decode cc pc = .ok (.return_, 1)) : W p l e R s m args below meth c H locs 0 0 (MQ below (va_Qv post (fun u t => PU u t.heap) A) args s 0 0 A) (F0 m pc ls []) :=
  W.vret hexec hb hr (fun t ht hW => ⟨⟨u, rfl, hp, by show PU u t.heap; rw [ht]; exact hP⟩, hS.F ht⟩) hS.2.2 hdg hlocks
end EAR
/-- a contract's start -/
theorem ea_start {l : Launch} {y : MethodName} {b : ByteArray} {n : Nat} {ret : Option FieldType} {rm : Room} {av : List Value} {B : State → Prop} {Qc : Array Value → State → Outcome → State → Prop} {mc ms : Nat} {free : Addr → Prop} (hy : plainName y.cls = true) (hlen : (lg_sl av).length ≤ n)
    (body : ∀ (p : Program) (e : Env) (s : State) (m : MethodId) (below : List Frame) (meth : Method) (c : Code) (ls : Array Slot), p.tables.exec = Jvm.exec → c.code = b → meth.sig.returnType = ret → meth.locks = false → c.maxLocals = n → s.vm.findClass y.cls = some m.cls → (∀ w ∈ ea_tb, w.before av.toArray s = true) → meth.name = y.name → B s → lv_has ls n (lv_args 0 av) →
      W p l e rm s m av.toArray below meth c s.heap [] 0 0 (MQ below Qc av.toArray s mc ms free) (F0 m 0 ls [])) : Met l y (.code y b n ret :: ea_tb) rm (va_Pc av B) Qc mc ms free := by
  refine Met.ofW (cc := b) (maxL := n) (ret := ret) hy rfl ?_
  intro p e s m args below meth c s₁ BB hml hv
  obtain ⟨rfl, hB⟩ := hv
  have hl := lv_entry av hlen
  rw [lg_entry_eq]
  exact body p e s m below meth c _ BB.exec BB.bytes BB.returns BB.notSynchronized hml (findClass_of_methodNamed BB.named) (fun w hw => atoms_spec (ws := .code y b n ret :: ea_tb) BB.pre w (List.mem_cons_of_mem _ hw)) (name_of_methodNamed BB.named BB.method).1 hB hl
end
section
/-! ===== pure: lists of accepted numbers ===== -/
def ea_tp : List Nat → Nat
  | [] => 0
  | x :: xs => max x (ea_tp xs)
def ea_ins (s : Nat) : List Nat → List Nat
  | [] => [s]
  | x :: xs => if x < s then x :: ea_ins s xs else s :: x :: xs
def ea_pl (s : Nat) : List Nat → Nat
  | [] => 0
  | x :: xs => if x < s then ea_pl s xs + 1 else 0
theorem ea_gd {zs : List Nat} {i : Nat} (h : i < zs.length) : zs.getD i 0 = zs[i] := by simp [List.getD, h]
theorem ea_pl_lt {s y : Nat} {t : List Nat} (h : y < s) : ea_pl s (y :: t) = ea_pl s t + 1 := if_pos h
theorem ea_pl_ge {s y : Nat} {t : List Nat} (h : ¬ y < s) : ea_pl s (y :: t) = 0 := if_neg h
theorem ea_ins_lt {s y : Nat} {t : List Nat} (h : y < s) : ea_ins s (y :: t) = y :: ea_ins s t := if_pos h
theorem ea_ins_ge {s y : Nat} {t : List Nat} (h : ¬ y < s) : ea_ins s (y :: t) = s :: y :: t := if_neg h
theorem ea_tp_perm {xs ys : List Nat} (h : xs.Perm ys) : ea_tp xs = ea_tp ys := by
  induction h with
  | nil => rfl
  | cons x _ ih => simp only [ea_tp, ih]
  | swap x y t => simp only [ea_tp]; omega
  | trans _ _ h1 h2 => exact h1.trans h2
theorem ea_tp_le {zs : List Nat} {x : Nat} (h : x ∈ zs) : x ≤ ea_tp zs := by
  induction zs with
  | nil => cases h
  | cons y t ih =>
    simp only [ea_tp]
    rcases List.mem_cons.mp h with rfl | h
    · omega
    · have := ih h
      omega
theorem ea_tp_mem (zs : List Nat) : ea_tp zs = 0 ∨ ea_tp zs ∈ zs := by
  induction zs with
  | nil => exact Or.inl rfl
  | cons y t ih =>
    simp only [ea_tp]
    rcases Nat.le_total y (ea_tp t) with h | h
    · rw [Nat.max_eq_right h]
      rcases ih with e | e
      · exact Or.inl e
      · exact Or.inr (List.mem_cons_of_mem _ e)
    · rw [Nat.max_eq_left h]
      exact Or.inr List.mem_cons_self
theorem ea_ins_perm (s : Nat) (zs : List Nat) : (ea_ins s zs).Perm (s :: zs) := by
  induction zs with
  | nil => exact List.Perm.refl _
  | cons y t ih =>
    simp only [ea_ins]
    by_cases h : y < s
    · rw [if_pos h]
      exact (List.Perm.cons y ih).trans (List.Perm.swap s y t)
    · rw [if_neg h]
theorem ea_tp_ins (s : Nat) (zs : List Nat) : ea_tp (ea_ins s zs) = max s (ea_tp zs) := ea_tp_perm (ea_ins_perm s zs)
theorem ea_len_ins (s : Nat) (zs : List Nat) : (ea_ins s zs).length = zs.length + 1 := (ea_ins_perm s zs).length_eq
theorem ea_mem_ins {s x : Nat} {zs : List Nat} : x ∈ ea_ins s zs ↔ x = s ∨ x ∈ zs := by
  rw [(ea_ins_perm s zs).mem_iff, List.mem_cons]
theorem ea_ins_sorted {s : Nat} {zs : List Nat} (h : zs.Pairwise (· < ·)) (hs : s ∉ zs) : (ea_ins s zs).Pairwise (· < ·) := by
  induction zs with
  | nil => exact List.pairwise_singleton _ _
  | cons y t ih =>
    obtain ⟨h1, h2⟩ := List.pairwise_cons.mp h
    simp only [ea_ins]
    by_cases hy : y < s
    · rw [if_pos hy]
      refine List.pairwise_cons.mpr ⟨fun x hx => ?_, ih h2 (fun q => hs (List.mem_cons_of_mem _ q))⟩
      rcases ea_mem_ins.mp hx with rfl | hx
      · exact hy
      · exact h1 x hx
    · rw [if_neg hy]
      have hne : s ≠ y := fun q => hs (by rw [q]; exact List.mem_cons_self)
      refine List.pairwise_cons.mpr ⟨fun x hx => ?_, h⟩
      rcases List.mem_cons.mp hx with rfl | hx
      · omega
      · have := h1 x hx
        omega
theorem ea_pl_le (s : Nat) (zs : List Nat) : ea_pl s zs ≤ zs.length := by
  induction zs with
  | nil => exact Nat.le_refl _
  | cons y t ih =>
    simp only [ea_pl]
    split <;> simp <;> omega
theorem ea_pl_iff {s : Nat} {zs : List Nat} (h : zs.Pairwise (· < ·)) : ∀ i, i < zs.length → (zs.getD i 0 < s ↔ i < ea_pl s zs) := by
  induction zs with
  | nil => intro i hi; simp at hi
  | cons y t ih =>
    obtain ⟨h1, h2⟩ := List.pairwise_cons.mp h
    intro i hi
    simp only [ea_pl]
    by_cases hy : y < s
    · rw [if_pos hy]
      cases i with
      | zero => simp [hy]
      | succ i =>
        have hi' : i < t.length := by simpa using hi
        have := ih h2 i hi'
        simp only [List.getD_cons_succ]
        rw [this]
        omega
    · rw [if_neg hy]
      cases i with
      | zero => simp; omega
      | succ i =>
        have hi' : i < t.length := by simpa using hi
        have hm : t.getD i 0 ∈ t := by
          rw [ea_gd hi']
          exact List.getElem_mem hi'
        have := h1 _ hm
        simp only [List.getD_cons_succ]
        omega
theorem ea_getD_ins (s : Nat) (zs : List Nat) : ∀ i, i ≤ zs.length → (ea_ins s zs).getD i 0 = if i < ea_pl s zs then zs.getD i 0 else if i = ea_pl s zs then s else zs.getD (i - 1) 0 := by
  induction zs with
  | nil =>
    intro i hi
    have : i = 0 := by simpa using hi
    subst this
    simp [ea_ins, ea_pl]
  | cons y t ih =>
    intro i hi
    by_cases hy : y < s
    · rw [ea_pl_lt hy, ea_ins_lt hy]
      cases i with
      | zero => simp
      | succ i =>
        have hi' : i ≤ t.length := by simpa using hi
        simp only [List.getD_cons_succ, ih i hi', Nat.add_lt_add_iff_right, Nat.add_right_cancel_iff, Nat.add_sub_cancel]
        by_cases h1 : i < ea_pl s t
        · rw [if_pos h1, if_pos h1]
        · rw [if_neg h1, if_neg h1]
          by_cases h2 : i = ea_pl s t
          · rw [if_pos h2, if_pos h2]
          · rw [if_neg h2, if_neg h2]
            cases i with
            | zero => omega
            | succ i => simp
    · rw [ea_pl_ge hy, ea_ins_ge hy]
      cases i with
      | zero => simp
      | succ i => simp
theorem ea_pl_cnt {zs : List Nat} (h : zs.Pairwise (· < ·)) (b : Nat) : ea_pl (b + 1) zs = zs.countP (fun x => decide (x ≤ b)) := by
  induction zs with
  | nil => rfl
  | cons y t ih =>
    obtain ⟨h1, h2⟩ := List.pairwise_cons.mp h
    simp only [ea_pl, List.countP_cons]
    by_cases hy : y < b + 1
    · rw [if_pos hy, ih h2, if_pos (by simp; omega)]
    · rw [if_neg hy, if_neg (by simp; omega)]
      have : t.countP (fun x => decide (x ≤ b)) = 0 := by
        rw [List.countP_eq_zero]
        intro x hx
        have := h1 x hx
        simp
        omega
      omega
theorem ea_pl_has {n : Nat} {zs : List Nat} (h : zs.Pairwise (· < ·)) : (ea_pl n zs < zs.length ∧ zs.getD (ea_pl n zs) 0 = n) ↔ n ∈ zs := by
  constructor
  · intro ⟨h1, h2⟩
    rw [ea_gd h1] at h2
    rw [← h2]
    exact List.getElem_mem h1
  · intro hn
    obtain ⟨i, hi, he⟩ := List.getElem_of_mem hn
    have hg : zs.getD i 0 = n := by rw [ea_gd hi]; exact he
    have h1 := (ea_pl_iff (s := n) h i hi)
    rw [hg] at h1
    have hle : ea_pl n zs ≤ i := Nat.not_lt.mp fun q => absurd (h1.mpr q) (Nat.lt_irrefl n)
    have hlt : ea_pl n zs < zs.length := Nat.lt_of_le_of_lt hle hi
    refine ⟨hlt, ?_⟩
    rcases Nat.lt_or_ge (ea_pl n zs) i with q | q
    · have h2 := (ea_pl_iff (s := n) h (ea_pl n zs) hlt)
      have h3 : zs.getD (ea_pl n zs) 0 < zs.getD i 0 := by
        rw [ea_gd hlt, ea_gd hi]
        exact List.pairwise_iff_getElem.mp h _ _ hlt hi q
      rw [hg] at h3
      exact absurd (h2.mp h3) (Nat.lt_irrefl _)
    · have : ea_pl n zs = i := Nat.le_antisymm hle q
      rw [this]
      exact hg
theorem ea_mem_map {s : Nat} {zs : List Nat} (hs : s < 2 ^ 31) (hz : ∀ x ∈ zs, x < 2 ^ 31) : nI s ∈ zs.map nI ↔ s ∈ zs := by
  constructor
  · intro h
    obtain ⟨x, hx, he⟩ := List.mem_map.mp h
    have := (nI_eq (hz x hx) hs).mp he
    rw [← this]
    exact hx
  · exact fun h => List.mem_map.mpr ⟨s, h, rfl⟩
end
section
/-! ===== ints as integers ===== -/
def ea_I (z : Int) : Int32 := Int32.ofInt z
theorem ea_In (n : Nat) : nI n = ea_I n := Int32.ofInt_eq_ofNat.symm
theorem ea_Iadd (a b : Int) : ea_I a + ea_I b = ea_I (a + b) := (Int32.ofInt_add a b).symm
theorem ea_Isub (a b : Int) : ea_I a - ea_I b = ea_I (a - b) := (Int32.ofInt_sub a b).symm
theorem ea_Imul (a b : Int) : ea_I a * ea_I b = ea_I (a * b) := (Int32.ofInt_mul a b).symm
theorem ea_It {z : Int} (h : -1000000 ≤ z ∧ z ≤ 1000000) : (ea_I z).toInt = z := Int32.toInt_ofInt_of_le (by omega) (by omega)
theorem ea_Ile {a b : Int} (ha : -1000000 ≤ a ∧ a ≤ 1000000) (hb : -1000000 ≤ b ∧ b ≤ 1000000) : ea_I a ≤ ea_I b ↔ a ≤ b := by
  rw [Int32.le_iff_toInt_le, ea_It ha, ea_It hb]
theorem ea_Ilt {a b : Int} (ha : -1000000 ≤ a ∧ a ≤ 1000000) (hb : -1000000 ≤ b ∧ b ≤ 1000000) : ea_I a < ea_I b ↔ a < b := by
  rw [Int32.lt_iff_toInt_lt, ea_It ha, ea_It hb]
theorem ea_Ieq {a b : Int} (ha : -1000000 ≤ a ∧ a ≤ 1000000) (hb : -1000000 ≤ b ∧ b ≤ 1000000) : ea_I a = ea_I b ↔ a = b := by
  rw [← Int32.toInt_inj, ea_It ha, ea_It hb]
theorem ea_lt' {x y : Int32} (a b : Int) (hx : x = ea_I a) (hy : y = ea_I b) (ha : -1000000 ≤ a ∧ a ≤ 1000000) (hb : -1000000 ≤ b ∧ b ≤ 1000000) : x < y ↔ a < b := by
  subst hx hy
  exact ea_Ilt ha hb
theorem ea_le' {x y : Int32} (a b : Int) (hx : x = ea_I a) (hy : y = ea_I b) (ha : -1000000 ≤ a ∧ a ≤ 1000000) (hb : -1000000 ≤ b ∧ b ≤ 1000000) : x ≤ y ↔ a ≤ b := by
  subst hx hy
  exact ea_Ile ha hb
theorem ea_eq' {x y : Int32} (a b : Int) (hx : x = ea_I a) (hy : y = ea_I b) (ha : -1000000 ≤ a ∧ a ≤ 1000000) (hb : -1000000 ≤ b ∧ b ≤ 1000000) : x = y ↔ a = b := by
  subst hx hy
  exact ea_Ieq ha hb
theorem ea_Inat {z : Int} (h : 0 ≤ z) : ea_I z = nI z.toNat := by
  rw [ea_In, Int.toNat_of_nonneg h]
theorem ea_Iand (z : Int) : ea_I z &&& 255 = nI (z % 256).toNat := by
  rw [pk_and (ea_I z) 8 (by decide)]
  congr 1
  show (BitVec.ofInt 32 z).toNat % 2 ^ 8 = _
  rw [BitVec.toNat_ofInt]
  omega
theorem ea_sub {a b : Nat} : nI a - nI b = ea_I ((a : Int) - b) := by rw [ea_In, ea_In, ea_Isub]
/-! ===== the one abstract value: (numbers sorted, soft, hard, verdict counts) by line ===== -/
abbrev ea_S : Type := (Nat → List Nat) × (Nat → Nat) × (Nat → Nat) × (Nat → Nat → Int32)
abbrev ea_XS : Type := (Nat → Int32) × (Nat → Int32) × (Nat → Int64) × (Nat → Int32) × (Nat → Int32) × (Nat → Int32) × (Nat → Int32) × (Nat → Int32)
abbrev ea_MS : Type := (Nat → Int32) × (Nat → Int32) × (Nat → Int32) × (Nat → Int32) × (Nat → Int32)
def ea_okL (zs : List Nat) : Prop := zs.Pairwise (· < ·) ∧ (∀ x ∈ zs, 1 ≤ x) ∧ zs.length ≤ 60 ∧ ea_tp zs ≤ 256 * zs.length
def ea_ok (σ : ea_S) : Prop := ∀ l, l < 4 → ea_okL (σ.1 l) ∧ (1 ≤ σ.2.2.1 l ∧ σ.2.2.1 l ≤ 60) ∧ σ.2.1 l ≤ 60
def ea_bit (w : Nat) (zs : List Nat) (k : Nat) : Bool := decide (k < w ∧ ea_tp zs - k ∈ zs)
def ea_XL (w : Nat) (zs : List Nat) (a b : Int32) (c : Int64) (p : Int32) (f : Nat → Int32) : Prop :=
  a = nI (ea_tp zs / 256) ∧ b = nI (ea_tp zs % 256) ∧ (∀ k, k < 64 → c.toBitVec.getLsbD k = ea_bit w zs k) ∧ p = nI zs.length ∧ ∀ i, i < zs.length → f i = nI (zs.getD i 0)
def ea_RX (w : Nat) (σ : ea_S) (u : ea_XS) : Prop := ∀ l, l < 4 →
  ea_XL w (σ.1 l) (u.1 l) (u.2.1 l) (u.2.2.1 l) (u.2.2.2.1 l) (fun i => u.2.2.2.2.1 (60 * l + i)) ∧ u.2.2.2.2.2.1 l = nI (σ.2.1 l) ∧ u.2.2.2.2.2.2.1 l = nI (σ.2.2.1 l) ∧ ∀ v, 1 ≤ v → v ≤ 5 → u.2.2.2.2.2.2.2 (6 * l + v) = σ.2.2.2 l v
def ea_ML (zs : List Nat) (p : Int32) (f : Nat → Int32) : Prop := ∃ ns : List Nat, ns.Perm zs ∧ p = nI ns.length ∧ ∀ i, i < ns.length → f i = nI (ns.getD i 0)
def ea_RM (σ : ea_S) (v : ea_MS) : Prop := ∀ l, l < 4 →
  ea_ML (σ.1 l) (v.2.1 l) (fun i => v.1 (60 * l + i)) ∧ v.2.2.1 l = nI (σ.2.1 l) ∧ v.2.2.2.1 l = nI (σ.2.2.1 l) ∧ ∀ k, 1 ≤ k → k ≤ 5 → v.2.2.2.2 (8 * l + k) = σ.2.2.2 l k
/-! ===== the worlds of the two objects ===== -/
abbrev ea_ty (cI cJ : ClassId) : List (ClassId × FieldType) := [(cI, .int), (cJ, .long)]
abbrev ea_wX (q : Nat → Nat) (cI cJ : ClassId) (wi : Int32) (mk : Int64) (u : ea_XS) : va_W := [(q 0, .inr (0, [.ref (q 1), .ref (q 2), .ref (q 3), .ref (q 4), .ref (q 5), .ref (q 6), .ref (q 7), .ref (q 8), .int wi, .long mk])), (q 1, .inl (cI, 4, .inl u.1)), (q 2, .inl (cI, 4, .inl u.2.1)), (q 3, .inl (cJ, 4, .inr (.inl u.2.2.1))), (q 4, .inl (cI, 4, .inl u.2.2.2.1)), (q 5, .inl (cI, 240, .inl u.2.2.2.2.1)), (q 6, .inl (cI, 4, .inl u.2.2.2.2.2.1)), (q 7, .inl (cI, 4, .inl u.2.2.2.2.2.2.1)), (q 8, .inl (cI, 24, .inl u.2.2.2.2.2.2.2))]
abbrev ea_wM (q : Nat → Nat) (cI : ClassId) (wi : Int32) (v : ea_MS) : va_W := [(q 0, .inr (1, [.int wi, .ref (q 1), .ref (q 2), .ref (q 3), .ref (q 4), .ref (q 5)])), (q 1, .inl (cI, 240, .inl v.1)), (q 2, .inl (cI, 4, .inl v.2.1)), (q 3, .inl (cI, 4, .inl v.2.2.1)), (q 4, .inl (cI, 4, .inl v.2.2.2.1)), (q 5, .inl (cI, 32, .inl v.2.2.2.2))]
def ea_AX (n : Nat) (q : Nat → Nat) : Nat → Prop := fun a => ∃ i, i < n ∧ a = q i
def ea_ap (n : Nat) (q : Nat → Nat) : Prop := ∀ i j, i < n → j < n → q i = q j → i = j
theorem ea_DX {q : Nat → Nat} {cI cJ : ClassId} {wi : Int32} {mk : Int64} {u : ea_XS} (h : ea_ap 9 q) : va_D (ea_AX 9 q) (ea_wX q cI cJ wi mk u) := by
  have key : ∀ (k : Nat) (x : Nat × va_E), (ea_wX q cI cJ wi mk u)[k]? = some x → k < 9 ∧ x.1 = q k := by
    intro k x hx
    have hk : k < 9 := (List.getElem?_eq_some_iff.mp hx).1
    refine ⟨hk, ?_⟩
    rcases (show k = 0 ∨ k = 1 ∨ k = 2 ∨ k = 3 ∨ k = 4 ∨ k = 5 ∨ k = 6 ∨ k = 7 ∨ k = 8 by omega) with rfl | rfl | rfl | rfl | rfl | rfl | rfl | rfl | rfl <;> (cases hx; rfl)
  refine ⟨fun i j x y hx hy he => ?_, fun k x hx => ⟨k, key k x hx⟩⟩
  obtain ⟨h1, e1⟩ := key i x hx
  obtain ⟨h2, e2⟩ := key j y hy
  exact h i j h1 h2 (by rw [← e1, ← e2, he])
theorem ea_DM {q : Nat → Nat} {cI : ClassId} {wi : Int32} {v : ea_MS} (h : ea_ap 6 q) : va_D (ea_AX 6 q) (ea_wM q cI wi v) := by
  have key : ∀ (k : Nat) (x : Nat × va_E), (ea_wM q cI wi v)[k]? = some x → k < 6 ∧ x.1 = q k := by
    intro k x hx
    have hk : k < 6 := (List.getElem?_eq_some_iff.mp hx).1
    refine ⟨hk, ?_⟩
    rcases (show k = 0 ∨ k = 1 ∨ k = 2 ∨ k = 3 ∨ k = 4 ∨ k = 5 by omega) with rfl | rfl | rfl | rfl | rfl | rfl <;> (cases hx; rfl)
  refine ⟨fun i j x y hx hy he => ?_, fun k x hx => ⟨k, key k x hx⟩⟩
  obtain ⟨h1, e1⟩ := key i x hx
  obtain ⟨h2, e2⟩ := key j y hy
  exact h i j h1 h2 (by rw [← e1, ← e2, he])
/-- what stays of an object while it lives: its addresses apart, the window and its mask -/
def ea_cx (w : Nat) (mk : Int64) : Prop := 4 ≤ w ∧ w ≤ 64 ∧ ∀ k, k < 64 → mk.toBitVec.getLsbD k = decide (k < w)
/-! ===== what the methods answer ===== -/
def ea_inf (w t low : Nat) : Int := ((t : Int) - w + 1) + ((low : Int) - ((t : Int) - w + 1)) % 256
def ea_vd (w : Nat) (σ : ea_S) (l low : Nat) (pr : Bool) : Nat := if σ.2.2.1 l ≤ (σ.1 l).length then 5 else if ea_inf w (ea_tp (σ.1 l)) low < 1 then 3 else if (ea_inf w (ea_tp (σ.1 l)) low).toNat ∈ σ.1 l then 2 else if pr then 1 else 4
def ea_acc (σ : ea_S) (l n : Nat) : ea_S := (va_up σ.1 l (ea_ins n (σ.1 l)), σ.2)
def ea_cnt (σ : ea_S) (l v : Nat) : ea_S := (σ.1, σ.2.1, σ.2.2.1, fun j k => if j = l ∧ k = v then σ.2.2.2 l v + 1 else σ.2.2.2 j k)
def ea_sn (w : Nat) (σ : ea_S) (l low : Nat) : Nat := (ea_inf w (ea_tp (σ.1 l)) low).toNat
def ea_ju (w : Nat) (σ : ea_S) (l low : Nat) (pr : Bool) : ea_S := ea_cnt (if ea_vd w σ l low pr = 1 then ea_acc σ l (ea_sn w σ l low) else σ) l (ea_vd w σ l low pr)
abbrev ea_isL (x : Int32) : Prop := 0 ≤ x ∧ x ≤ 3
abbrev ea_isW (x : Int32) : Prop := 0 ≤ x ∧ x ≤ 255
def ea_n (x : Int32) : Nat := x.toNatClampNeg
def ea_cw (w : Nat) (zs : List Nat) : Nat → Nat
  | 0 => 0
  | k + 1 => ea_cw w zs k + (if ea_bit w zs k then 1 else 0)
def ea_gp (zs : List Nat) (t : Nat) : Nat → Nat → Nat
  | 0, _ => 0
  | n + 1, k => if t - k ∈ zs then ea_gp zs t n (k + 1) else t - k
def ea_lk (y st : Int32) (k : Nat) : Nat := ((y + nI k * st) &&& 255).toNatClampNeg
def ea_bu (w : Nat) (σ : ea_S) (l : Nat) (y st : Int32) : Nat → Int32 × ea_S
  | 0 => (0, σ)
  | k + 1 => (if ea_vd w (ea_bu w σ l y st k).2 l (ea_lk y st k) true = 1 then (ea_bu w σ l y st k).1 + 1 else (ea_bu w σ l y st k).1, ea_ju w (ea_bu w σ l y st k).2 l (ea_lk y st k) true)
def sp_top (σ : ea_S) (x : Int32) : Int32 := if ea_isL x then nI (ea_tp (σ.1 (ea_n x))) else -1
def sp_accepted (σ : ea_S) (x : Int32) : Int32 := if ea_isL x then nI (σ.1 (ea_n x)).length else -1
def sp_dead (σ : ea_S) (x : Int32) : Int32 := if ea_isL x then (if σ.2.2.1 (ea_n x) ≤ (σ.1 (ea_n x)).length then 1 else 0) else -1
def sp_aging (σ : ea_S) (x : Int32) : Int32 := if ea_isL x then (if σ.2.1 (ea_n x) ≤ (σ.1 (ea_n x)).length then 1 else 0) else -1
def sp_count (σ : ea_S) (x v : Int32) : Int32 := if ea_isL x then (if 1 ≤ v ∧ v ≤ 5 then σ.2.2.2 (ea_n x) (ea_n v) else -2) else -1
def sp_numberFor (w : Nat) (σ : ea_S) (x y : Int32) : Int32 := if ea_isL x ∧ ea_isW y then ea_I (ea_inf w (ea_tp (σ.1 (ea_n x))) (ea_n y)) else -1000
def sp_has (σ : ea_S) (x n : Int32) : Int32 := if ea_isL x then (if n ∈ (σ.1 (ea_n x)).map nI then 1 else 0) else -1
def sp_inWindow (w : Nat) (σ : ea_S) (x : Int32) : Int32 := if ea_isL x then nI (ea_cw w (σ.1 (ea_n x)) w) else -1
def ea_lost (w : Nat) (zs : List Nat) : Int32 := nI (ea_tp zs - w) - nI (zs.countP (fun x => decide (x ≤ ea_tp zs - w)))
def sp_lost (w : Nat) (σ : ea_S) (x : Int32) : Int32 := if ea_isL x then ea_lost w (σ.1 (ea_n x)) else -1
def sp_gap (w : Nat) (σ : ea_S) (x : Int32) : Int32 := if ea_isL x then nI (ea_gp (σ.1 (ea_n x)) (ea_tp (σ.1 (ea_n x))) (min w (ea_tp (σ.1 (ea_n x))) - 1) 1) else -1
def sp_rekey (σ : ea_S) (x : Int32) : Int32 × ea_S := if ea_isL x then (nI (σ.1 (ea_n x)).length, (va_up σ.1 (ea_n x) [], σ.2)) else (-1, σ)
def sp_limits (σ : ea_S) (x a b : Int32) : Int32 × ea_S := if ea_isL x then (if 1 ≤ b ∧ b ≤ 60 then (if 0 ≤ a ∧ a ≤ b then ((if ea_n b ≤ (σ.1 (ea_n x)).length then 1 else 0), (σ.1, va_up σ.2.1 (ea_n x) (ea_n a), va_up σ.2.2.1 (ea_n x) (ea_n b), σ.2.2.2)) else (-3, σ)) else (-2, σ)) else (-1, σ)
def sp_receive (w : Nat) (σ : ea_S) (x y pr : Int32) : Int32 × ea_S := if ea_isL x then (if ea_isW y then (nI (ea_vd w σ (ea_n x) (ea_n y) (decide (pr ≠ 0))), ea_ju w σ (ea_n x) (ea_n y) (decide (pr ≠ 0))) else (-2, σ)) else (-1, σ)
def sp_burst (w : Nat) (σ : ea_S) (x y st ct : Int32) : Int32 × ea_S := if ea_isL x then (if ea_isW y then (if -64 ≤ st ∧ st ≤ 64 then (if 1 ≤ ct ∧ ct ≤ 40 then ea_bu w σ (ea_n x) y st (ea_n ct) else (-4, σ)) else (-3, σ)) else (-2, σ)) else (-1, σ)
/-! ===== the abstract value stays well formed ===== -/
theorem ea_inf_b {w t low : Nat} (hw : w ≤ 64) : (t : Int) - w + 1 ≤ ea_inf w t low ∧ ea_inf w t low ≤ (t : Int) - w + 256 := by
  unfold ea_inf
  omega
theorem ea_tp15 {zs : List Nat} (h : ea_okL zs) : ea_tp zs ≤ 15360 := by
  have h1 := h.2.2.1
  have h2 := h.2.2.2
  omega
theorem ea_okL_ins {w : Nat} {zs : List Nat} {s : Nat} (h : ea_okL zs) (hl : zs.length < 60) (h1 : 1 ≤ s) (hs : s ∉ zs) (h2 : s ≤ ea_tp zs + 256) : ea_okL (ea_ins s zs) := by
  obtain ⟨a1, a2, a3, a4⟩ := h
  refine ⟨ea_ins_sorted a1 hs, fun x hx => ?_, by rw [ea_len_ins]; omega, ?_⟩
  · rcases ea_mem_ins.mp hx with rfl | hx
    · exact h1
    · exact a2 x hx
  · rw [ea_tp_ins, ea_len_ins]
    omega
theorem ea_vd_1 {w : Nat} {σ : ea_S} {l low : Nat} {pr : Bool} (h : ea_vd w σ l low pr = 1) : ¬ σ.2.2.1 l ≤ (σ.1 l).length ∧ 1 ≤ ea_inf w (ea_tp (σ.1 l)) low ∧ ea_sn w σ l low ∉ σ.1 l := by
  unfold ea_vd at h
  split at h
  · cases h
  · split at h
    · cases h
    · split at h
      · cases h
      · exact ⟨by assumption, by omega, by assumption⟩
theorem ea_vd_b (w : Nat) (σ : ea_S) (l low : Nat) (pr : Bool) : 1 ≤ ea_vd w σ l low pr ∧ ea_vd w σ l low pr ≤ 5 := by
  unfold ea_vd
  split
  · decide
  · split
    · decide
    · split
      · decide
      · split <;> decide
theorem ea_ok_acc {w : Nat} {σ : ea_S} {l n : Nat} (h : ea_ok σ) (hl : l < 4) (h0 : ¬ σ.2.2.1 l ≤ (σ.1 l).length) (h1 : 1 ≤ n) (hs : n ∉ σ.1 l) (h2 : n ≤ ea_tp (σ.1 l) + 256) : ea_ok (ea_acc σ l n) := by
  intro j hj
  obtain ⟨a, b, c⟩ := h j hj
  refine ⟨?_, b, c⟩
  by_cases e : j = l
  · subst e
    show ea_okL (va_up _ j _ j)
    rw [va_up_self]
    exact ea_okL_ins (w := w) a (by omega) h1 hs h2
  · show ea_okL (va_up _ l _ j)
    rw [va_up_ne _ _ e]
    exact a
theorem ea_ok_ju {w : Nat} {σ : ea_S} {l low : Nat} {pr : Bool} (hw : w ≤ 64) (h : ea_ok σ) (hl : l < 4) : ea_ok (ea_ju w σ l low pr) := by
  unfold ea_ju
  split
  · rename_i hv
    obtain ⟨h0, h1, h2⟩ := ea_vd_1 hv
    have hb := ea_inf_b (w := w) (t := ea_tp (σ.1 l)) (low := low) hw
    have : ea_ok (ea_acc σ l (ea_sn w σ l low)) := ea_ok_acc (w := w) h hl h0 (by unfold ea_sn; omega) h2 (by unfold ea_sn; omega)
    exact fun j hj => this j hj
  · exact fun j hj => h j hj
theorem ea_ok_bu {w : Nat} {σ : ea_S} {l : Nat} {y st : Int32} (hw : w ≤ 64) (h : ea_ok σ) (hl : l < 4) : ∀ k, ea_ok (ea_bu w σ l y st k).2 := by
  intro k
  induction k with
  | zero => exact h
  | succ k ih => exact ea_ok_ju hw ih hl
theorem ea_isL_n {x : Int32} (h : ea_isL x) : ∃ l, l < 4 ∧ x = nI l ∧ ea_n x = l := by
  obtain ⟨j, hj, e⟩ := nI_of2 (x := x) (M := 3) (n := 3) (by decide) (by rw [Int32.not_lt]; exact h.1) h.2
  exact ⟨j, by omega, e, by rw [e]; exact nI_clamp (by omega)⟩
theorem ea_isW_n {x : Int32} (h : ea_isW x) : ∃ l, l < 256 ∧ x = nI l ∧ ea_n x = l := by
  obtain ⟨j, hj, e⟩ := nI_of2 (x := x) (M := 255) (n := 255) (by decide) (by rw [Int32.not_lt]; exact h.1) h.2
  exact ⟨j, by omega, e, by rw [e]; exact nI_clamp (by omega)⟩
theorem ea_lk_n (y st : Int32) (k : Nat) : ea_lk y st k < 256 ∧ (y + nI k * st) &&& 255 = nI (ea_lk y st k) := by
  obtain ⟨j, hj, e⟩ := pk_andE (y + nI k * st) (m := 255) 8 (by decide)
  have : ea_lk y st k = j := by unfold ea_lk; rw [e]; exact nI_clamp (by omega)
  rw [this]
  exact ⟨hj, e⟩
end
section
/-! ===== bits of a long ===== -/
theorem ea_cu : ∀ k, k < 64 → ((nI k).toInt64.toUInt64 &&& Int64.toUInt64 63) = UInt64.ofNat k := by decide +kernel
theorem ea_ct : ∀ k, k < 64 → (UInt64.ofNat k).toNat = k := by decide +kernel
theorem ea_cs : ∀ k, k < 64 → ((nI k).toInt64 &&& 63).toBitVec.smod 64 = BitVec.ofNat 64 k := by decide +kernel
theorem ea_one : ∀ k, k < 64 → (1 : Int64).toBitVec.getLsbD k = decide (k = 0) := by decide +kernel
theorem ea_ushr (c : Int64) {k : Nat} (hk : k < 64) : (c.toUInt64 >>> ((nI k).toInt64.toUInt64 &&& Int64.toUInt64 63)).toInt64.toBitVec = c.toBitVec >>> k := by
  rw [ea_cu k hk]
  apply BitVec.eq_of_toNat_eq
  show (c.toUInt64 >>> UInt64.ofNat k).toNat = _
  rw [UInt64.toNat_shiftRight, ea_ct k hk, Nat.mod_eq_of_lt hk, BitVec.toNat_ushiftRight]
  rfl
theorem ea_bitv (c : Int64) {k : Nat} (hk : k < 64) : ((c.toUInt64 >>> ((nI k).toInt64.toUInt64 &&& Int64.toUInt64 63)).toInt64 &&& 1) = if c.toBitVec.getLsbD k then 1 else 0 := by
  rw [← Int64.toBitVec_inj, Int64.toBitVec_and, ea_ushr c hk]
  show c.toBitVec >>> k &&& 1#64 = _
  rw [BitVec.and_one_eq_setWidth_ofBool_getLsbD, BitVec.getLsbD_ushiftRight, Nat.add_zero]
  cases c.toBitVec.getLsbD k <;> rfl
theorem ea_shl_bit (c : Int64) {k i : Nat} (hk : k < 64) (hi : i < 64) : (c <<< ((nI k).toInt64 &&& 63)).toBitVec.getLsbD i = (decide (k ≤ i) && c.toBitVec.getLsbD (i - k)) := by
  rw [Int64.toBitVec_shiftLeft, ea_cs k hk, BitVec.shiftLeft_eq', BitVec.toNat_ofNat, Nat.mod_eq_of_lt (show k < 2 ^ 64 by omega), BitVec.getLsbD_shiftLeft]
  by_cases h : k ≤ i
  · simp [h, hi, Nat.not_lt.mpr h]
  · simp [h, Nat.not_le.mp h]
theorem ea_bit_iff {w : Nat} {zs : List Nat} {k : Nat} : ea_bit w zs k = true ↔ k < w ∧ ea_tp zs - k ∈ zs := by simp [ea_bit]
theorem ea_no0 {zs : List Nat} (h : ea_okL zs) : 0 ∉ zs := fun q => by
  have := h.2.1 0 q
  omega
theorem ea_nab {zs : List Nat} {x : Nat} (h : ea_tp zs < x) : x ∉ zs := fun q => by
  have := ea_tp_le q
  omega
theorem ea_b_near {w : Nat} {zs : List Nat} {c mk : Int64} {s d : Nat} (hcx : ea_cx w mk) (hz : ea_okL zs) (hb : ∀ k, k < 64 → c.toBitVec.getLsbD k = ea_bit w zs k) (hd : s = ea_tp zs + d) (h1 : 1 ≤ d) (h63 : d < 64) : ∀ k, k < 64 → (((c <<< ((nI d).toInt64 &&& 63)) ||| 1) &&& mk).toBitVec.getLsbD k = ea_bit w (ea_ins s zs) k := by
  intro k hk
  have ht : ea_tp (ea_ins s zs) = s := by rw [ea_tp_ins]; omega
  rw [Int64.toBitVec_and, BitVec.getLsbD_and, Int64.toBitVec_or, BitVec.getLsbD_or, ea_shl_bit c h63 hk, hcx.2.2 k hk, Bool.eq_iff_iff, ea_bit_iff, ht, ea_mem_ins, ea_one k hk]
  simp only [Bool.and_eq_true, Bool.or_eq_true, decide_eq_true_eq]
  have hw := hcx.1
  by_cases hk0 : k = 0
  · subst hk0
    exact ⟨fun h => ⟨h.2, Or.inl rfl⟩, fun h => ⟨Or.inr rfl, h.1⟩⟩
  · by_cases hdk : d ≤ k
    · rw [hb (k - d) (by omega), ea_bit_iff, show ea_tp zs - (k - d) = s - k by omega]
      constructor
      · rintro ⟨(⟨_, _, h3⟩ | h0), h4⟩
        · exact ⟨h4, Or.inr h3⟩
        · exact absurd h0 hk0
      · rintro ⟨h4, (h0 | h3)⟩
        · exact absurd h0 (by omega)
        · exact ⟨Or.inl ⟨hdk, by omega, h3⟩, h4⟩
    · constructor
      · rintro ⟨(⟨h3, _⟩ | h0), h4⟩
        · exact absurd h3 hdk
        · exact absurd h0 hk0
      · rintro ⟨h4, (h0 | h3)⟩
        · exact absurd h0 (by omega)
        · exact absurd h3 (ea_nab (by omega))
theorem ea_b_far {w : Nat} {zs : List Nat} {s : Nat} (hw : 4 ≤ w ∧ w ≤ 64) (hz : ea_okL zs) (hd : ea_tp zs + 63 < s) : ∀ k, k < 64 → (1 : Int64).toBitVec.getLsbD k = ea_bit w (ea_ins s zs) k := by
  intro k hk
  have ht : ea_tp (ea_ins s zs) = s := by rw [ea_tp_ins]; omega
  rw [Bool.eq_iff_iff, ea_bit_iff, ht, ea_mem_ins, ea_one k hk]
  simp only [decide_eq_true_eq]
  constructor
  · rintro rfl
    exact ⟨by omega, Or.inl rfl⟩
  · rintro ⟨h4, (h0 | h3)⟩
    · omega
    · exact absurd h3 (ea_nab (by omega))
theorem ea_b_in {w : Nat} {zs : List Nat} {c : Int64} {s : Nat} (hw : 4 ≤ w ∧ w ≤ 64) (hz : ea_okL zs) (hb : ∀ k, k < 64 → c.toBitVec.getLsbD k = ea_bit w zs k) (h1 : 1 ≤ s) (hs : s ≤ ea_tp zs) (h2 : ea_tp zs < s + w) : ∀ k, k < 64 → (c ||| ((1 : Int64) <<< ((nI (ea_tp zs - s)).toInt64 &&& 63))).toBitVec.getLsbD k = ea_bit w (ea_ins s zs) k := by
  intro k hk
  have ht : ea_tp (ea_ins s zs) = ea_tp zs := by rw [ea_tp_ins]; omega
  rw [Int64.toBitVec_or, BitVec.getLsbD_or, ea_shl_bit 1 (by omega) hk, ea_one (k - (ea_tp zs - s)) (by omega), hb k hk, Bool.eq_iff_iff, ea_bit_iff, ht, ea_mem_ins]
  simp only [Bool.and_eq_true, Bool.or_eq_true, decide_eq_true_eq, ea_bit_iff]
  constructor
  · rintro (⟨h3, h4⟩ | ⟨h3, h4⟩)
    · exact ⟨h3, Or.inr h4⟩
    · exact ⟨by omega, Or.inl (by omega)⟩
  · rintro ⟨h3, (h4 | h4)⟩
    · exact Or.inr (by omega)
    · exact Or.inl ⟨h3, h4⟩
theorem ea_mk64 : ∀ k, k < 64 → (-1 : Int64).toBitVec.getLsbD k = decide (k < 64) := by decide +kernel
theorem ea_mkw : ∀ w, w < 64 → ∀ k, k < 64 → (((1 : Int64) <<< ((nI w).toInt64 &&& 63)) - 1).toBitVec.getLsbD k = decide (k < w) := by decide +kernel
theorem ea_lg1 {b : Bool} : lg_cmp (if b then (1 : Int64) else 0) 1 = 0 ↔ b = true := by cases b <;> decide
theorem ea_lg0 {b : Bool} : lg_cmp (if b then (1 : Int64) else 0) 0 = 0 ↔ b = false := by cases b <;> decide
theorem ea_l2b {b : Bool} : (if b then (1 : Int64) else 0).toInt32 = if b then 1 else 0 := by cases b <;> decide
theorem ea_m1 (n : Nat) : nI (n + 1) + Int32.ofInt (-1) = nI n := by
  rw [show Int32.ofInt (-1) = -1 from by decide]
  exact pk_m1 n
theorem ea_ifc {P Q : Prop} [Decidable P] [Decidable Q] (h : P ↔ Q) : (if P then (1 : Int32) else 0) = if Q then 1 else 0 := by
  by_cases hp : P
  · rw [if_pos hp, if_pos (h.mp hp)]
  · rw [if_neg hp, if_neg (fun q => hp (h.mpr q))]
end
section
set_option maxHeartbeats 4000000 in
set_option maxRecDepth 100000 in
theorem c_X_isLine (l : Launch) (x : Int32) : Met l y_X_isLine (.code y_X_isLine b_X_isLine 1 (some .boolean) :: ea_tb) (ea_rm 0) (va_Pc [.int x] (fun _ => True)) (QcRead (if ea_isL x then 1 else 0)) 0 0 (fun _ => False) := by
  refine ea_start (by decide) (Nat.le_of_ble_eq_true rfl) ?_
  intro p e s m below meth c ls hx hb hr hlocks hml hown hts hnm hB hl
  have hown : s.vm.findClass R_X = some m.cls := hown
  have hl : lv_has ls 1 [(0, .int x)] := hl
  refine lv_iload_n hx hb d_X_isLine_0 rfl (lv_at hl 0 rfl) ?_
  refine lv_if_lt (tgt := 13) hx hb d_X_isLine_1 (by decide) (fun c1 => ?_) (fun c1 => ?_)
  · refine lv_iconst (v := 0) hx hb d_X_isLine_13 (by decide) ?_
    exact ea_retZ hx hb hr hlocks ((if_neg (fun h => absurd c1 (Int32.not_lt.mpr h.1))).symm) (by split <;> simp) d_X_isLine_14
  · refine lv_iload_n hx hb d_X_isLine_4 rfl (lv_at hl 0 rfl) ?_
    refine lv_iconst (v := 3) hx hb d_X_isLine_5 (by decide) ?_
    refine lv_icmp_gt (tgt := 13) hx hb d_X_isLine_6 (by decide) (fun c2 => ?_) (fun c2 => ?_)
    · refine lv_iconst (v := 0) hx hb d_X_isLine_13 (by decide) ?_
      exact ea_retZ hx hb hr hlocks ((if_neg (fun h => absurd c2 (Int32.not_lt.mpr h.2))).symm) (by split <;> simp) d_X_isLine_14
    · refine lv_iconst (v := 1) hx hb d_X_isLine_9 (by decide) ?_
      refine lv_goto (tgt := 14) hx hb d_X_isLine_10 (by decide) ?_
      exact ea_retZ hx hb hr hlocks ((if_pos ⟨Int32.not_lt.mp c1, Int32.not_lt.mp c2⟩).symm) (by split <;> simp) d_X_isLine_14
theorem c_X_isLine1 (l : Launch) {x : Int32} (h : ea_isL x) : Met l y_X_isLine (.code y_X_isLine b_X_isLine 1 (some .boolean) :: ea_tb) (ea_rm 0) (va_Pc [.int x] (fun _ => True)) (QcRead 1) 0 0 (fun _ => False) := by
  have := c_X_isLine l x
  rwa [if_pos h] at this
theorem c_X_isLine0 (l : Launch) {x : Int32} (h : ¬ ea_isL x) : Met l y_X_isLine (.code y_X_isLine b_X_isLine 1 (some .boolean) :: ea_tb) (ea_rm 0) (va_Pc [.int x] (fun _ => True)) (QcRead 0) 0 0 (fun _ => False) := by
  have := c_X_isLine l x
  rwa [if_neg h] at this
set_option maxHeartbeats 4000000 in
set_option maxRecDepth 100000 in
theorem c_X_isLow (l : Launch) (x : Int32) : Met l y_X_isLow (.code y_X_isLow b_X_isLow 1 (some .boolean) :: ea_tb) (ea_rm 0) (va_Pc [.int x] (fun _ => True)) (QcRead (if ea_isW x then 1 else 0)) 0 0 (fun _ => False) := by
  refine ea_start (by decide) (Nat.le_of_ble_eq_true rfl) ?_
  intro p e s m below meth c ls hx hb hr hlocks hml hown hts hnm hB hl
  have hown : s.vm.findClass R_X = some m.cls := hown
  have hl : lv_has ls 1 [(0, .int x)] := hl
  refine lv_iload_n hx hb d_X_isLow_0 rfl (lv_at hl 0 rfl) ?_
  refine lv_if_lt (tgt := 15) hx hb d_X_isLow_1 (by decide) (fun c1 => ?_) (fun c1 => ?_)
  · refine lv_iconst (v := 0) hx hb d_X_isLow_15 (by decide) ?_
    exact ea_retZ hx hb hr hlocks ((if_neg (fun h => absurd c1 (Int32.not_lt.mpr h.1))).symm) (by split <;> simp) d_X_isLow_16
  · refine lv_iload_n hx hb d_X_isLow_4 rfl (lv_at hl 0 rfl) ?_
    refine lv_sipush (v := 255) hx hb d_X_isLow_5 (by decide) ?_
    refine lv_icmp_gt (tgt := 15) hx hb d_X_isLow_8 (by decide) (fun c2 => ?_) (fun c2 => ?_)
    · refine lv_iconst (v := 0) hx hb d_X_isLow_15 (by decide) ?_
      exact ea_retZ hx hb hr hlocks ((if_neg (fun h => absurd c2 (Int32.not_lt.mpr h.2))).symm) (by split <;> simp) d_X_isLow_16
    · refine lv_iconst (v := 1) hx hb d_X_isLow_11 (by decide) ?_
      refine lv_goto (tgt := 16) hx hb d_X_isLow_12 (by decide) ?_
      exact ea_retZ hx hb hr hlocks ((if_pos ⟨Int32.not_lt.mp c1, Int32.not_lt.mp c2⟩).symm) (by split <;> simp) d_X_isLow_16
theorem c_X_isLow1 (l : Launch) {x : Int32} (h : ea_isW x) : Met l y_X_isLow (.code y_X_isLow b_X_isLow 1 (some .boolean) :: ea_tb) (ea_rm 0) (va_Pc [.int x] (fun _ => True)) (QcRead 1) 0 0 (fun _ => False) := by
  have := c_X_isLow l x
  rwa [if_pos h] at this
theorem c_X_isLow0 (l : Launch) {x : Int32} (h : ¬ ea_isW x) : Met l y_X_isLow (.code y_X_isLow b_X_isLow 1 (some .boolean) :: ea_tb) (ea_rm 0) (va_Pc [.int x] (fun _ => True)) (QcRead 0) 0 0 (fun _ => False) := by
  have := c_X_isLow l x
  rwa [if_neg h] at this
set_option maxHeartbeats 4000000 in
set_option maxRecDepth 100000 in
theorem c_X_topOf (l : Launch) (D : va_G) (q : Nat → Nat) (cI cJ : ClassId) (w : Nat) (mk : Int64) (hcx : ea_cx w mk) (σ : ea_S) (hok : ea_ok σ) (u : ea_XS) (hR : ea_RX w σ u) (ln : Nat) (hln : ln < 4) : Met l y_X_topOf (.code y_X_topOf b_X_topOf 2 (some .int) :: ea_tb) (ea_rm 0) (va_Pc [.ref ((q 0)), .int ((nI ln))] (ea_B D (ea_ty cI cJ) (ea_wX q cI cJ (nI w) mk u))) (QcRead (nI (ea_tp (σ.1 ln)))) 0 0 (fun _ => False) := by
  refine ea_start (by decide) (Nat.le_of_ble_eq_true rfl) ?_
  intro p e s m below meth c ls hx hb hr hlocks hml hown hts hnm hB hl
  have hown : s.vm.findClass R_X = some m.cls := hown
  obtain ⟨hP, hK⟩ := hB
  have hl : lv_has ls 2 [(0, .ref ((q 0))), (1, .int ((nI ln)))] := hl
  obtain ⟨⟨hth, htl, hbs, hps, hli⟩, hsf, hhd, hvd⟩ := hR ln hln
  refine lv_sipush (v := (nI 256)) hx hb d_X_topOf_0 (by decide) ?_
  refine lv_aload_n hx hb d_X_topOf_3 rfl (lv_at hl 0 rfl) ?_
  refine va_get (ci := 0) (C := R_X) (T := F_X) (N := 10) hx hb hts i_X hown hK hP 0 rfl rfl 0 (by decide) (hts _ kf_X_topHigh) (fun _ h => h) rfl d_X_topOf_4 ?_
  refine lv_iload_n hx hb d_X_topOf_7 rfl (lv_at hl 1 rfl) ?_
  refine ea_ild hx hb hK hP 1 0 rfl rfl (ln) (rfl) (hln) (by decide) (v := (nI (ea_tp (σ.1 ln) / 256))) (hth) d_X_topOf_8 ?_
  refine lv_imul hx hb d_X_topOf_9 ?_
  refine ea_ti (y := (nI (256 * (ea_tp (σ.1 ln) / 256)))) (pk_mul _ _) ?_
  refine lv_aload_n hx hb d_X_topOf_10 rfl (lv_at hl 0 rfl) ?_
  refine va_get (ci := 0) (C := R_X) (T := F_X) (N := 10) hx hb hts i_X hown hK hP 0 rfl rfl 1 (by decide) (hts _ kf_X_topLow) (fun _ h => h) rfl d_X_topOf_11 ?_
  refine lv_iload_n hx hb d_X_topOf_14 rfl (lv_at hl 1 rfl) ?_
  refine ea_ild hx hb hK hP 2 0 rfl rfl (ln) (rfl) (hln) (by decide) (v := (nI (ea_tp (σ.1 ln) % 256))) (htl) d_X_topOf_15 ?_
  refine lv_iadd hx hb d_X_topOf_16 ?_
  refine ea_ti (y := (nI (256 * (ea_tp (σ.1 ln) / 256) + ea_tp (σ.1 ln) % 256))) (nI_add _ _) ?_
  exact ea_retI hx hb hr hlocks (congrArg nI (Nat.div_add_mod _ _)) d_X_topOf_17
set_option maxHeartbeats 4000000 in
set_option maxRecDepth 100000 in
theorem c_X_infer (l : Launch) (D : va_G) (q : Nat → Nat) (cI cJ : ClassId) (w : Nat) (mk : Int64) (hcx : ea_cx w mk) (σ : ea_S) (hok : ea_ok σ) (u : ea_XS) (hR : ea_RX w σ u) (ln : Nat) (hln : ln < 4) (lo : Nat) (hlo : lo < 256) : Met l y_X_infer (.code y_X_infer b_X_infer 5 (some .int) :: ea_tb) (ea_rm 0) (va_Pc [.ref ((q 0)), .int ((nI ln)), .int ((nI lo))] (ea_B D (ea_ty cI cJ) (ea_wX q cI cJ (nI w) mk u))) (QcRead (ea_I (ea_inf w (ea_tp (σ.1 ln)) lo))) 0 0 (fun _ => False) := by
  refine ea_start (by decide) (Nat.le_of_ble_eq_true rfl) ?_
  intro p e s m below meth c ls hx hb hr hlocks hml hown hts hnm hB hl
  have hown : s.vm.findClass R_X = some m.cls := hown
  obtain ⟨hP, hK⟩ := hB
  have hl : lv_has ls 5 [(0, .ref ((q 0))), (1, .int ((nI ln))), (2, .int ((nI lo)))] := hl
  obtain ⟨⟨hth, htl, hbs, hps, hli⟩, hsf, hhd, hvd⟩ := hR ln hln
  obtain ⟨hw4, hw64, -⟩ := hcx
  generalize ea_tp (σ.1 ln) = t at hth htl ⊢
  refine lv_aload_n hx hb d_X_infer_0 rfl (lv_at hl 0 rfl) ?_
  refine va_get (ci := 0) (C := R_X) (T := F_X) (N := 10) hx hb hts i_X hown hK hP 0 rfl rfl 1 (by decide) (hts _ kf_X_topLow) (fun _ h => h) rfl d_X_infer_1 ?_
  refine lv_iload_n hx hb d_X_infer_4 rfl (lv_at hl 1 rfl) ?_
  refine ea_ild hx hb hK hP 2 0 rfl rfl (ln) (rfl) (hln) (by decide) (v := (nI (t % 256))) (htl) d_X_infer_5 ?_
  refine lv_aload_n hx hb d_X_infer_6 rfl (lv_at hl 0 rfl) ?_
  refine va_get (ci := 0) (C := R_X) (T := F_X) (N := 10) hx hb hts i_X hown hK hP 0 rfl rfl 8 (by decide) (hts _ kf_X_window) (fun _ h => h) rfl d_X_infer_7 ?_
  refine lv_isub hx hb d_X_infer_10 ?_
  refine ea_ti (y := (ea_I (((t % 256 : Nat) : Int) - (w : Int)))) (ea_sub) ?_
  refine lv_iconst (v := 1) hx hb d_X_infer_11 (by decide) ?_
  refine lv_iadd hx hb d_X_infer_12 ?_
  refine ea_ti (y := (ea_I (((t % 256 : Nat) : Int) - (w : Int) + 1))) (ea_Iadd _ 1) ?_
  refine lv_istore_n (lv' := [(3, .int ((ea_I (((t % 256 : Nat) : Int) - (w : Int) + 1)))), (0, .ref ((q 0))), (1, .int ((nI ln))), (2, .int ((nI lo)))]) hx hb d_X_infer_13 rfl hl (by decide) rfl (fun ls hl => ?_)
  refine lv_aload_n hx hb d_X_infer_14 rfl (lv_at hl 1 rfl) ?_
  refine va_get (ci := 0) (C := R_X) (T := F_X) (N := 10) hx hb hts i_X hown hK hP 0 rfl rfl 0 (by decide) (hts _ kf_X_topHigh) (fun _ h => h) rfl d_X_infer_15 ?_
  refine lv_iload_n hx hb d_X_infer_18 rfl (lv_at hl 2 rfl) ?_
  refine ea_ild hx hb hK hP 1 0 rfl rfl (ln) (rfl) (hln) (by decide) (v := (nI (t / 256))) (hth) d_X_infer_19 ?_
  refine lv_istore (lv' := [(4, .int ((nI (t / 256)))), (3, .int ((ea_I (((t % 256 : Nat) : Int) - (w : Int) + 1)))), (0, .ref ((q 0))), (1, .int ((nI ln))), (2, .int ((nI lo)))]) hx hb d_X_infer_20 hl (by decide) rfl (fun ls hl => ?_)
  refine lv_iload_n hx hb d_X_infer_22 rfl (lv_at hl 1 rfl) ?_
  refine lv_if_lt (tgt := 45) hx hb d_X_infer_23 (by decide) (fun c1 => ?_) (fun c1 => ?_)
  · have c1 := (ea_lt' (((t % 256 : Nat) : Int) - (w : Int) + 1) 0 rfl rfl (by omega) (by omega)).mp c1
    refine lv_iload_n hx hb d_X_infer_45 rfl (lv_at hl 4 rfl) ?_
    refine lv_iload_n hx hb d_X_infer_46 rfl (lv_at hl 1 rfl) ?_
    refine lv_sipush (v := 256) hx hb d_X_infer_47 (by decide) ?_
    refine lv_iadd hx hb d_X_infer_50 ?_
    refine ea_ti (y := (ea_I ((((t % 256 : Nat) : Int) - (w : Int) + 1) + 256))) (ea_Iadd _ 256) ?_
    refine lv_icmp_lt (tgt := 61) hx hb d_X_infer_51 (by decide) (fun c2 => ?_) (fun c2 => ?_)
    · have c2 := (ea_lt' (lo : Int) ((((t % 256 : Nat) : Int) - (w : Int) + 1) + 256) (ea_In lo) rfl (by omega) (by omega)).mp c2
      refine lv_iload hx hb d_X_infer_61 (lv_at hl 0 rfl) ?_
      refine lv_istore (lv' := [(4, .int ((nI (t / 256)))), (3, .int ((ea_I (((t % 256 : Nat) : Int) - (w : Int) + 1)))), (0, .ref ((q 0))), (1, .int ((nI ln))), (2, .int ((nI lo)))]) hx hb d_X_infer_63 hl (by decide) rfl (fun ls hl => ?_)
      refine lv_sipush (v := 256) hx hb d_X_infer_65 (by decide) ?_
      refine lv_iload hx hb d_X_infer_68 (lv_at hl 0 rfl) ?_
      refine lv_imul hx hb d_X_infer_70 ?_
      refine ea_ti (y := (ea_I (256 * ((t / 256 : Nat) : Int)))) (by rw [ea_In]; exact ea_Imul 256 _) ?_
      refine lv_iload_n hx hb d_X_infer_71 rfl (lv_at hl 4 rfl) ?_
      refine lv_iadd hx hb d_X_infer_72 ?_
      refine ea_ti (y := (ea_I (256 * ((t / 256 : Nat) : Int) + (lo : Int)))) (by rw [ea_In]; exact ea_Iadd _ _) ?_
      exact ea_retI hx hb hr hlocks (congrArg ea_I (by unfold ea_inf; omega)) d_X_infer_73
    · have c2 := mt (ea_lt' (lo : Int) ((((t % 256 : Nat) : Int) - (w : Int) + 1) + 256) (ea_In lo) rfl (by omega) (by omega)).mpr c2
      refine lv_iload hx hb d_X_infer_54 (lv_at hl 0 rfl) ?_
      refine lv_iconst (v := 1) hx hb d_X_infer_56 (by decide) ?_
      refine lv_isub hx hb d_X_infer_57 ?_
      refine ea_ti (y := (ea_I (((t / 256 : Nat) : Int) - 1))) (by rw [ea_In]; exact ea_Isub _ 1) ?_
      refine lv_goto (tgt := 63) hx hb d_X_infer_58 (by decide) ?_
      refine lv_istore (lv' := [(4, .int ((ea_I (((t / 256 : Nat) : Int) - 1)))), (3, .int ((ea_I (((t % 256 : Nat) : Int) - (w : Int) + 1)))), (0, .ref ((q 0))), (1, .int ((nI ln))), (2, .int ((nI lo)))]) hx hb d_X_infer_63 hl (by decide) rfl (fun ls hl => ?_)
      refine lv_sipush (v := 256) hx hb d_X_infer_65 (by decide) ?_
      refine lv_iload hx hb d_X_infer_68 (lv_at hl 0 rfl) ?_
      refine lv_imul hx hb d_X_infer_70 ?_
      refine ea_ti (y := (ea_I (256 * (((t / 256 : Nat) : Int) - 1)))) (ea_Imul 256 _) ?_
      refine lv_iload_n hx hb d_X_infer_71 rfl (lv_at hl 4 rfl) ?_
      refine lv_iadd hx hb d_X_infer_72 ?_
      refine ea_ti (y := (ea_I (256 * (((t / 256 : Nat) : Int) - 1) + (lo : Int)))) (by rw [ea_In]; exact ea_Iadd _ _) ?_
      exact ea_retI hx hb hr hlocks (congrArg ea_I (by unfold ea_inf; omega)) d_X_infer_73
  · have c1 := mt (ea_lt' (((t % 256 : Nat) : Int) - (w : Int) + 1) 0 rfl rfl (by omega) (by omega)).mpr c1
    refine lv_iload_n hx hb d_X_infer_26 rfl (lv_at hl 4 rfl) ?_
    refine lv_iload_n hx hb d_X_infer_27 rfl (lv_at hl 1 rfl) ?_
    refine lv_icmp_lt (tgt := 36) hx hb d_X_infer_28 (by decide) (fun c2 => ?_) (fun c2 => ?_)
    · have c2 := (ea_lt' (lo : Int) (((t % 256 : Nat) : Int) - (w : Int) + 1) (ea_In lo) rfl (by omega) (by omega)).mp c2
      refine lv_iload hx hb d_X_infer_36 (lv_at hl 0 rfl) ?_
      refine lv_iconst (v := 1) hx hb d_X_infer_38 (by decide) ?_
      refine lv_iadd hx hb d_X_infer_39 ?_
      refine ea_ti (y := (ea_I (((t / 256 : Nat) : Int) + 1))) (by rw [ea_In]; exact ea_Iadd _ 1) ?_
      refine lv_istore (lv' := [(4, .int ((ea_I (((t / 256 : Nat) : Int) + 1)))), (3, .int ((ea_I (((t % 256 : Nat) : Int) - (w : Int) + 1)))), (0, .ref ((q 0))), (1, .int ((nI ln))), (2, .int ((nI lo)))]) hx hb d_X_infer_40 hl (by decide) rfl (fun ls hl => ?_)
      refine lv_goto (tgt := 65) hx hb d_X_infer_42 (by decide) ?_
      refine lv_sipush (v := 256) hx hb d_X_infer_65 (by decide) ?_
      refine lv_iload hx hb d_X_infer_68 (lv_at hl 0 rfl) ?_
      refine lv_imul hx hb d_X_infer_70 ?_
      refine ea_ti (y := (ea_I (256 * (((t / 256 : Nat) : Int) + 1)))) (ea_Imul 256 _) ?_
      refine lv_iload_n hx hb d_X_infer_71 rfl (lv_at hl 4 rfl) ?_
      refine lv_iadd hx hb d_X_infer_72 ?_
      refine ea_ti (y := (ea_I (256 * (((t / 256 : Nat) : Int) + 1) + (lo : Int)))) (by rw [ea_In]; exact ea_Iadd _ _) ?_
      exact ea_retI hx hb hr hlocks (congrArg ea_I (by unfold ea_inf; omega)) d_X_infer_73
    · have c2 := mt (ea_lt' (lo : Int) (((t % 256 : Nat) : Int) - (w : Int) + 1) (ea_In lo) rfl (by omega) (by omega)).mpr c2
      refine lv_iload hx hb d_X_infer_31 (lv_at hl 0 rfl) ?_
      refine lv_goto (tgt := 40) hx hb d_X_infer_33 (by decide) ?_
      refine lv_istore (lv' := [(4, .int ((nI (t / 256)))), (3, .int ((ea_I (((t % 256 : Nat) : Int) - (w : Int) + 1)))), (0, .ref ((q 0))), (1, .int ((nI ln))), (2, .int ((nI lo)))]) hx hb d_X_infer_40 hl (by decide) rfl (fun ls hl => ?_)
      refine lv_goto (tgt := 65) hx hb d_X_infer_42 (by decide) ?_
      refine lv_sipush (v := 256) hx hb d_X_infer_65 (by decide) ?_
      refine lv_iload hx hb d_X_infer_68 (lv_at hl 0 rfl) ?_
      refine lv_imul hx hb d_X_infer_70 ?_
      refine ea_ti (y := (ea_I (256 * ((t / 256 : Nat) : Int)))) (by rw [ea_In]; exact ea_Imul 256 _) ?_
      refine lv_iload_n hx hb d_X_infer_71 rfl (lv_at hl 4 rfl) ?_
      refine lv_iadd hx hb d_X_infer_72 ?_
      refine ea_ti (y := (ea_I (256 * ((t / 256 : Nat) : Int) + (lo : Int)))) (by rw [ea_In]; exact ea_Iadd _ _) ?_
      exact ea_retI hx hb hr hlocks (congrArg ea_I (by unfold ea_inf; omega)) d_X_infer_73
set_option maxHeartbeats 4000000 in
set_option maxRecDepth 100000 in
theorem c_X_place (l : Launch) (D : va_G) (q : Nat → Nat) (cI cJ : ClassId) (w : Nat) (mk : Int64) (u : ea_XS) (ln : Nat) (hln : ln < 4) (zs : List Nat) (hzo : ea_okL zs) (hps : u.2.2.2.1 ln = nI zs.length) (hli : ∀ i, i < zs.length → u.2.2.2.2.1 (60 * ln + i) = nI (zs.getD i 0)) (N : Nat) (hN : N < 2 ^ 31) : Met l y_X_place (.code y_X_place b_X_place 7 (some .int) :: ea_tb) (ea_rm 0) (va_Pc [.ref ((q 0)), .int ((nI ln)), .int ((nI N))] (ea_B D (ea_ty cI cJ) (ea_wX q cI cJ (nI w) mk u))) (QcRead (nI (ea_pl N zs))) 0 0 (fun _ => False) := by
  refine ea_start (by decide) (Nat.le_of_ble_eq_true rfl) ?_
  intro p e s m below meth c ls hx hb hr hlocks hml hown hts hnm hB hl
  have hown : s.vm.findClass R_X = some m.cls := hown
  obtain ⟨hP, hK⟩ := hB
  have hl : lv_has ls 7 [(0, .ref ((q 0))), (1, .int ((nI ln))), (2, .int ((nI N)))] := hl
  have hsm : ∀ x, x ∈ zs → x < 2 ^ 31 := fun x hx => by have h1 := ea_tp_le hx; have h2 := ea_tp15 hzo; omega
  have hlen : zs.length ≤ 60 := hzo.2.2.1
  have hple := ea_pl_le N zs
  have loop : ∀ (n i a b : Nat) (ls : Array Slot), i + n = 8 → a ≤ ea_pl N zs → ea_pl N zs ≤ b → b ≤ zs.length → b - a < 2 ^ n → lv_has ls 7 [(0, .ref ((q 0))), (1, .int ((nI ln))), (2, .int ((nI N))), (3, .int ((nI a))), (4, .int ((nI b))), (5, .int ((nI i)))] → W p l e (ea_rm 0) s m [.ref ((q 0)), .int ((nI ln)), .int ((nI N))].toArray below meth c s.heap [] 0 0 (MQ below (QcRead (nI (ea_pl N zs))) [.ref ((q 0)), .int ((nI ln)), .int ((nI N))].toArray s 0 0 (fun _ => False)) (F0 m 13 ls []) := by
    intro n
    induction n with
    | zero =>
      intro i a b ls hi h1 h2 h3 h4 hl
      refine lv_iload hx hb d_X_place_13 (lv_at hl 5 rfl) ?_
      refine lv_bipush (v := (nI 8)) hx hb d_X_place_15 (by decide) ?_
      refine lv_icmp_ge (tgt := 68) hx hb d_X_place_17 (by decide) (fun _ => ?_) (fun c9 => absurd (nI_le (by omega) (by omega)) c9)
      refine lv_iload_n hx hb d_X_place_68 rfl (lv_at hl 3 rfl) ?_
      exact ea_retI hx hb hr hlocks (by rw [show a = ea_pl N zs by omega]) d_X_place_69
    | succ n ih =>
      intro i a b ls hi h1 h2 h3 h4 hl
      have hp2 : 2 ^ (n + 1) = 2 * 2 ^ n := by omega
      refine lv_iload hx hb d_X_place_13 (lv_at hl 5 rfl) ?_
      refine lv_bipush (v := (nI 8)) hx hb d_X_place_15 (by decide) ?_
      refine lv_icmp_ge (tgt := 68) hx hb d_X_place_17 (by decide) (fun c9 => absurd c9 (nI_ge (by omega) (by omega))) (fun _ => ?_)
      refine lv_iload_n hx hb d_X_place_20 rfl (lv_at hl 3 rfl) ?_
      refine lv_iload hx hb d_X_place_21 (lv_at hl 4 rfl) ?_
      refine lv_icmp_ge (tgt := 68) hx hb d_X_place_23 (by decide) (fun c2 => ?_) (fun c2 => ?_)
      · have c2 := (nI_leI (by omega) (by omega)).mp c2
        refine lv_iload_n hx hb d_X_place_68 rfl (lv_at hl 3 rfl) ?_
        exact ea_retI hx hb hr hlocks (by rw [show a = ea_pl N zs by omega]) d_X_place_69
      · have c2 := mt (nI_leI (by omega) (by omega)).mpr c2
        have hmid : (a + b) / 2 < zs.length := by omega
        have hpi := ea_pl_iff (s := N) hzo.1 ((a + b) / 2) hmid
        have hgs : zs.getD ((a + b) / 2) 0 < 2 ^ 31 := hsm _ (by rw [ea_gd hmid]; exact List.getElem_mem hmid)
        refine lv_iload_n hx hb d_X_place_26 rfl (lv_at hl 3 rfl) ?_
        refine lv_iload hx hb d_X_place_27 (lv_at hl 4 rfl) ?_
        refine lv_iadd hx hb d_X_place_29 ?_
        refine ea_ti (y := (nI (a + b))) (nI_add _ _) ?_
        refine lv_iconst (v := 1) hx hb d_X_place_30 (by decide) ?_
        refine lv_ishr hx hb d_X_place_31 ?_
        refine ea_ti (y := (nI ((a + b) / 2))) (pk_shrN (by omega) _ 1 (by decide)) ?_
        refine lv_istore (lv' := [(6, .int ((nI ((a + b) / 2)))), (0, .ref ((q 0))), (1, .int ((nI ln))), (2, .int ((nI N))), (3, .int ((nI a))), (4, .int ((nI b))), (5, .int ((nI i)))]) hx hb d_X_place_32 hl (by decide) rfl (fun ls hl => ?_)
        refine lv_aload_n hx hb d_X_place_34 rfl (lv_at hl 1 rfl) ?_
        refine va_get (ci := 0) (C := R_X) (T := F_X) (N := 10) hx hb hts i_X hown hK hP 0 rfl rfl 4 (by decide) (hts _ kf_X_list) (fun _ h => h) rfl d_X_place_35 ?_
        refine lv_bipush (v := (nI 60)) hx hb d_X_place_38 (by decide) ?_
        refine lv_iload_n hx hb d_X_place_40 rfl (lv_at hl 2 rfl) ?_
        refine lv_imul hx hb d_X_place_41 ?_
        refine ea_ti (y := (nI (60 * ln))) (pk_mul _ _) ?_
        refine lv_iload hx hb d_X_place_42 (lv_at hl 0 rfl) ?_
        refine lv_iadd hx hb d_X_place_44 ?_
        refine ea_ti (y := (nI (60 * ln + (a + b) / 2))) (nI_add _ _) ?_
        refine ea_ild hx hb hK hP 5 0 rfl rfl (60 * ln + (a + b) / 2) (rfl) (by omega) (by decide) (v := (nI (zs.getD ((a + b) / 2) 0))) (hli _ (by omega)) d_X_place_45 ?_
        refine lv_iload_n hx hb d_X_place_46 rfl (lv_at hl 3 rfl) ?_
        refine lv_icmp_ge (tgt := 58) hx hb d_X_place_47 (by decide) (fun c3 => ?_) (fun c3 => ?_)
        · have c3 := (nI_leI (by omega) (by omega)).mp c3
          refine lv_iload hx hb d_X_place_58 (lv_at hl 0 rfl) ?_
          refine lv_istore (lv' := [(4, .int ((nI ((a + b) / 2)))), (6, .int ((nI ((a + b) / 2)))), (0, .ref ((q 0))), (1, .int ((nI ln))), (2, .int ((nI N))), (3, .int ((nI a))), (5, .int ((nI i)))]) hx hb d_X_place_60 hl (by decide) rfl (fun ls hl => ?_)
          refine lv_iinc (v := (nI (i + 1))) (lv' := [(5, .int ((nI (i + 1)))), (4, .int ((nI ((a + b) / 2)))), (6, .int ((nI ((a + b) / 2)))), (0, .ref ((q 0))), (1, .int ((nI ln))), (2, .int ((nI N))), (3, .int ((nI a)))]) hx hb d_X_place_62 hl (k := 6) rfl (nI_1 _) (by decide) rfl (fun ls hl => ?_)
          refine lv_goto (tgt := 13) hx hb d_X_place_65 (by decide) ?_
          exact ih (i + 1) a ((a + b) / 2) ls (by omega) (by omega) (by omega) (by omega) (by omega) (lv_sub hl [3, 4, 5, 6, 1, 0] rfl)
        · have c3 := mt (nI_leI (by omega) (by omega)).mpr c3
          refine lv_iload hx hb d_X_place_50 (lv_at hl 0 rfl) ?_
          refine lv_iconst (v := 1) hx hb d_X_place_52 (by decide) ?_
          refine lv_iadd hx hb d_X_place_53 ?_
          refine ea_ti (y := (nI ((a + b) / 2 + 1))) (nI_add _ _) ?_
          refine lv_istore_n (lv' := [(3, .int ((nI ((a + b) / 2 + 1)))), (6, .int ((nI ((a + b) / 2)))), (0, .ref ((q 0))), (1, .int ((nI ln))), (2, .int ((nI N))), (4, .int ((nI b))), (5, .int ((nI i)))]) hx hb d_X_place_54 rfl hl (by decide) rfl (fun ls hl => ?_)
          refine lv_goto (tgt := 62) hx hb d_X_place_55 (by decide) ?_
          refine lv_iinc (v := (nI (i + 1))) (lv' := [(5, .int ((nI (i + 1)))), (3, .int ((nI ((a + b) / 2 + 1)))), (6, .int ((nI ((a + b) / 2)))), (0, .ref ((q 0))), (1, .int ((nI ln))), (2, .int ((nI N))), (4, .int ((nI b)))]) hx hb d_X_place_62 hl (k := 6) rfl (nI_1 _) (by decide) rfl (fun ls hl => ?_)
          refine lv_goto (tgt := 13) hx hb d_X_place_65 (by decide) ?_
          exact ih (i + 1) ((a + b) / 2 + 1) b ls (by omega) (by omega) (by omega) (by omega) (by omega) (lv_sub hl [3, 4, 5, 1, 6, 0] rfl)
  refine lv_iconst (v := (nI 0)) hx hb d_X_place_0 (by decide) ?_
  refine lv_istore_n (lv' := [(3, .int ((nI 0))), (0, .ref ((q 0))), (1, .int ((nI ln))), (2, .int ((nI N)))]) hx hb d_X_place_1 rfl hl (by decide) rfl (fun ls hl => ?_)
  refine lv_aload_n hx hb d_X_place_2 rfl (lv_at hl 1 rfl) ?_
  refine va_get (ci := 0) (C := R_X) (T := F_X) (N := 10) hx hb hts i_X hown hK hP 0 rfl rfl 3 (by decide) (hts _ kf_X_passed) (fun _ h => h) rfl d_X_place_3 ?_
  refine lv_iload_n hx hb d_X_place_6 rfl (lv_at hl 2 rfl) ?_
  refine ea_ild hx hb hK hP 4 0 rfl rfl (ln) (rfl) (hln) (by decide) (v := (nI zs.length)) (hps) d_X_place_7 ?_
  refine lv_istore (lv' := [(4, .int ((nI zs.length))), (3, .int ((nI 0))), (0, .ref ((q 0))), (1, .int ((nI ln))), (2, .int ((nI N)))]) hx hb d_X_place_8 hl (by decide) rfl (fun ls hl => ?_)
  refine lv_iconst (v := (nI 0)) hx hb d_X_place_10 (by decide) ?_
  refine lv_istore (lv' := [(5, .int ((nI 0))), (4, .int ((nI zs.length))), (3, .int ((nI 0))), (0, .ref ((q 0))), (1, .int ((nI ln))), (2, .int ((nI N)))]) hx hb d_X_place_11 hl (by decide) rfl (fun ls hl => ?_)
  exact loop 8 0 0 zs.length ls (by omega) (by omega) (by omega) (by omega) (by omega) (lv_sub hl [3, 4, 5, 2, 1, 0] rfl)
def ea_o1 (x : Int64) : Int64 := x - ((x.toUInt64 >>> ((1 : Int32).toInt64.toUInt64 &&& Int64.toUInt64 63)).toInt64 &&& 6148914691236517205)
def ea_o2 (x : Int64) : Int64 := (x &&& 3689348814741910323) + ((x.toUInt64 >>> ((2 : Int32).toInt64.toUInt64 &&& Int64.toUInt64 63)).toInt64 &&& 3689348814741910323)
def ea_o3 (x : Int64) : Int64 := (x + (x.toUInt64 >>> ((4 : Int32).toInt64.toUInt64 &&& Int64.toUInt64 63)).toInt64) &&& 1085102592571150095
def ea_o4 (x : Int64) : Int32 := ((x * 72340172838076673).toUInt64 >>> ((56 : Int32).toInt64.toUInt64 &&& Int64.toUInt64 63)).toInt64.toInt32
def ea_ones (x : Int64) : Int32 := ea_o4 (ea_o3 (ea_o2 (ea_o1 x)))
set_option maxHeartbeats 4000000 in
set_option maxRecDepth 100000 in
theorem c_X_ones (l : Launch) (x : Int64) : Met l y_X_ones (.code y_X_ones b_X_ones 4 (some .int) :: ea_tb) (ea_rm 0) (va_Pc [.long x] (fun _ => True)) (QcRead (ea_ones x)) 0 0 (fun _ => False) := by
  refine ea_start (by decide) (Nat.le_of_ble_eq_true rfl) ?_
  intro p e s m below meth c ls hx hb hr hlocks hml hown hts hnm hB hl
  have hown : s.vm.findClass R_X = some m.cls := hown
  have hl : lv_has ls 4 [(0, .long x)] := hl
  refine lv_lload_n hx hb d_X_ones_0 rfl (lv_at hl 0 rfl) ?_
  refine lv_lload_n hx hb d_X_ones_1 rfl (lv_at hl 0 rfl) ?_
  refine lv_iconst (v := 1) hx hb d_X_ones_2 (by decide) ?_
  refine lv_lushr (v := (((x : Int64).toUInt64 >>> ((1 : Int32).toInt64.toUInt64 &&& Int64.toUInt64 63)).toInt64)) hx hb d_X_ones_3 (rfl) ?_
  refine lv_ldc2 (v := (6148914691236517205)) hx hb hown (hts _ kk_71) d_X_ones_4 ?_
  refine lv_land hx hb d_X_ones_7 ?_
  refine lv_lsub hx hb d_X_ones_8 ?_
  refine ea_tl (y := (ea_o1 x)) (rfl) ?_
  refine lv_lstore_n (lv' := [(2, .long ((ea_o1 x))), (0, .long x)]) hx hb d_X_ones_9 rfl hl (by decide) rfl (fun ls hl => ?_)
  refine lv_lload_n hx hb d_X_ones_10 rfl (lv_at hl 0 rfl) ?_
  refine lv_ldc2 (v := (3689348814741910323)) hx hb hown (hts _ kk_73) d_X_ones_11 ?_
  refine lv_land hx hb d_X_ones_14 ?_
  refine lv_lload_n hx hb d_X_ones_15 rfl (lv_at hl 0 rfl) ?_
  refine lv_iconst (v := 2) hx hb d_X_ones_16 (by decide) ?_
  refine lv_lushr (v := ((((ea_o1 x) : Int64).toUInt64 >>> ((2 : Int32).toInt64.toUInt64 &&& Int64.toUInt64 63)).toInt64)) hx hb d_X_ones_17 (rfl) ?_
  refine lv_ldc2 (v := (3689348814741910323)) hx hb hown (hts _ kk_73) d_X_ones_18 ?_
  refine lv_land hx hb d_X_ones_21 ?_
  refine lv_ladd hx hb d_X_ones_22 ?_
  refine ea_tl (y := (ea_o2 (ea_o1 x))) (rfl) ?_
  refine lv_lstore_n (lv' := [(2, .long ((ea_o2 (ea_o1 x)))), (0, .long x)]) hx hb d_X_ones_23 rfl hl (by decide) rfl (fun ls hl => ?_)
  refine lv_lload_n hx hb d_X_ones_24 rfl (lv_at hl 0 rfl) ?_
  refine lv_lload_n hx hb d_X_ones_25 rfl (lv_at hl 0 rfl) ?_
  refine lv_iconst (v := 4) hx hb d_X_ones_26 (by decide) ?_
  refine lv_lushr (v := ((((ea_o2 (ea_o1 x)) : Int64).toUInt64 >>> ((4 : Int32).toInt64.toUInt64 &&& Int64.toUInt64 63)).toInt64)) hx hb d_X_ones_27 (rfl) ?_
  refine lv_ladd hx hb d_X_ones_28 ?_
  refine lv_ldc2 (v := (1085102592571150095)) hx hb hown (hts _ kk_75) d_X_ones_29 ?_
  refine lv_land hx hb d_X_ones_32 ?_
  refine ea_tl (y := (ea_o3 (ea_o2 (ea_o1 x)))) (rfl) ?_
  refine lv_lstore_n (lv' := [(2, .long ((ea_o3 (ea_o2 (ea_o1 x))))), (0, .long x)]) hx hb d_X_ones_33 rfl hl (by decide) rfl (fun ls hl => ?_)
  refine lv_lload_n hx hb d_X_ones_34 rfl (lv_at hl 0 rfl) ?_
  refine lv_ldc2 (v := (72340172838076673)) hx hb hown (hts _ kk_77) d_X_ones_35 ?_
  refine lv_lmul hx hb d_X_ones_38 ?_
  refine lv_bipush (v := 56) hx hb d_X_ones_39 (by decide) ?_
  refine lv_lushr (v := (((((ea_o3 (ea_o2 (ea_o1 x))) * (72340172838076673)) : Int64).toUInt64 >>> ((56 : Int32).toInt64.toUInt64 &&& Int64.toUInt64 63)).toInt64)) hx hb d_X_ones_41 (rfl) ?_
  refine lv_l2i (v := ((((((ea_o3 (ea_o2 (ea_o1 x))) * (72340172838076673)) : Int64).toUInt64 >>> ((56 : Int32).toInt64.toUInt64 &&& Int64.toUInt64 63)).toInt64)).toInt32) hx hb d_X_ones_42 (rfl) ?_
  exact ea_retI hx hb hr hlocks (rfl) d_X_ones_43
end
section
def ea_PX (D : va_G) (q : Nat → Nat) (cI cJ : ClassId) (wi : Int32) (mk : Int64) (u : ea_XS) (H : Heap) : Prop := va_P D ea_cl (ea_wX q cI cJ wi mk u) H
theorem ea_up_s (f : Nat → Int32) (k : Nat) (x : Int32) : upd f k x k = x := pk_us
theorem ea_RX_acc {w : Nat} {σ : ea_S} {th tl : Nat → Int32} {bs : Nat → Int64} {ps li sf hd vd : Nat → Int32} {ln n : Nat} (hR : ea_RX w σ (th, tl, bs, ps, li, sf, hd, vd)) (hok : ea_ok σ) (hln : ln < 4) (hlen : (σ.1 ln).length < 60) {th1 tl1 : Nat → Int32} {bs1 : Nat → Int64} {ps1 li2 : Nat → Int32}
    (h1 : th1 ln = nI (ea_tp (ea_ins n (σ.1 ln)) / 256)) (h2 : tl1 ln = nI (ea_tp (ea_ins n (σ.1 ln)) % 256)) (h3 : ∀ k, k < 64 → (bs1 ln).toBitVec.getLsbD k = ea_bit w (ea_ins n (σ.1 ln)) k) (hO : ∀ j, j ≠ ln → th1 j = th j ∧ tl1 j = tl j ∧ bs1 j = bs j) (h4 : ps1 = upd ps ln (nI ((σ.1 ln).length + 1)))
    (h5 : ∀ i, li2 i = if i = 60 * ln + ea_pl n (σ.1 ln) then nI n else if 60 * ln + ea_pl n (σ.1 ln) < i ∧ i ≤ 60 * ln + (σ.1 ln).length then li (i - 1) else li i) : ea_RX w (ea_acc σ ln n) (th1, tl1, bs1, ps1, li2, sf, hd, vd) := by
  have hpl := ea_pl_le n (σ.1 ln)
  intro j hj
  obtain ⟨⟨a1, a2, a3, a4, a5⟩, b1, b2, b3⟩ := hR j hj
  refine ⟨?_, b1, b2, b3⟩
  have hjl := (hok j hj).1.2.2.1
  by_cases e : j = ln
  · subst e
    show ea_XL w (va_up σ.1 j (ea_ins n (σ.1 j)) j) _ _ _ _ _
    rw [va_up_self]
    refine ⟨h1, h2, h3, ?_, fun i hi => ?_⟩
    · show ps1 j = _
      rw [h4, pk_us, ea_len_ins]
    · rw [ea_len_ins] at hi
      show li2 (60 * j + i) = _
      rw [h5, ea_getD_ins n (σ.1 j) i (by omega)]
      by_cases c1 : i < ea_pl n (σ.1 j)
      · rw [if_neg (by omega), if_neg (by omega), if_pos c1]
        exact a5 i (by omega)
      · rw [if_neg c1]
        by_cases c2 : i = ea_pl n (σ.1 j)
        · rw [if_pos (by omega), if_pos c2]
        · rw [if_neg (by omega), if_pos (by omega), if_neg c2, show 60 * j + i - 1 = 60 * j + (i - 1) by omega]
          exact a5 (i - 1) (by omega)
  · show ea_XL w (va_up σ.1 ln (ea_ins n (σ.1 ln)) j) _ _ _ _ _
    rw [va_up_ne _ _ e]
    obtain ⟨o1, o2, o3⟩ := hO j e
    refine ⟨o1.trans a1, o2.trans a2, fun k hk => ?_, ?_, fun i hi => ?_⟩
    · show (bs1 j).toBitVec.getLsbD k = _
      rw [o3]
      exact a3 k hk
    · show ps1 j = _
      rw [h4, pk_un e]
      exact a4
    · show li2 (60 * j + i) = _
      rw [h5, if_neg (by omega), if_neg (by omega)]
      exact a5 i hi
theorem ea_RX_cnt {w : Nat} {σ : ea_S} {th tl : Nat → Int32} {bs : Nat → Int64} {ps li sf hd vd vd1 : Nat → Int32} {ln k : Nat} (hR : ea_RX w σ (th, tl, bs, ps, li, sf, hd, vd)) (hln : ln < 4) (hk : 1 ≤ k ∧ k ≤ 5) (h : vd1 = upd vd (6 * ln + k) (vd (6 * ln + k) + 1)) : ea_RX w (ea_cnt σ ln k) (th, tl, bs, ps, li, sf, hd, vd1) := by
  intro j hj
  obtain ⟨a, b1, b2, b3⟩ := hR j hj
  refine ⟨a, b1, b2, fun v hv1 hv2 => ?_⟩
  show vd1 (6 * j + v) = if j = ln ∧ v = k then σ.2.2.2 ln k + 1 else σ.2.2.2 j v
  rw [h]
  by_cases e : j = ln ∧ v = k
  · obtain ⟨rfl, rfl⟩ := e
    rw [pk_us, if_pos ⟨rfl, rfl⟩]
    exact congrArg (· + 1) (b3 v hv1 hv2)
  · rw [pk_un (by omega), if_neg e]
    exact b3 v hv1 hv2
set_option maxHeartbeats 4000000 in
set_option maxRecDepth 100000 in
theorem c_X_isSeen (l : Launch) (D : va_G) (q : Nat → Nat) (cI cJ : ClassId) (w : Nat) (mk : Int64) (hcx : ea_cx w mk) (σ : ea_S) (hok : ea_ok σ) (u : ea_XS) (hR : ea_RX w σ u) (ln : Nat) (hln : ln < 4) (n : Nat) (hn : n ≤ 20000) (hnw : ea_tp (σ.1 ln) < n + w) : Met l y_X_isSeen (.code y_X_isSeen b_X_isSeen 4 (some .boolean) :: ea_tb) (ea_rm 1) (va_Pc [.ref ((q 0)), .int ((nI ln)), .int ((nI n))] (ea_B D (ea_ty cI cJ) (ea_wX q cI cJ (nI w) mk u))) (QcRead (if n ∈ σ.1 ln then 1 else 0)) 0 0 (fun _ => False) := by
  refine ea_start (by decide) (Nat.le_of_ble_eq_true rfl) ?_
  intro p e s m below meth c ls hx hb hr hlocks hml hown hts hnm hB hl
  have hown : s.vm.findClass R_X = some m.cls := hown
  obtain ⟨hP, hK⟩ := hB
  have hl : lv_has ls 4 [(0, .ref ((q 0))), (1, .int ((nI ln))), (2, .int ((nI n)))] := hl
  obtain ⟨⟨hth, htl, hbs, hps, hli⟩, hsf, hhd, hvd⟩ := hR ln hln
  have hw4 := hcx.1
  have hw64 := hcx.2.1
  have h15 := ea_tp15 (hok ln hln).1
  refine lv_aload_n hx hb d_X_isSeen_0 rfl (lv_at hl 0 rfl) ?_
  refine lv_iload_n hx hb d_X_isSeen_1 rfl (lv_at hl 1 rfl) ?_
  refine ea_callR (As := [.int ((nI ln))]) (rest := []) (r := (nI (ea_tp (σ.1 ln)))) ⟨hx, hb, hml, hown, hts⟩ hK hP rfl rfl (c_X_topOf l D q cI cJ w mk hcx σ hok u hR ln hln) ⟨kl_X_56, kn_X_topOf, ks_X_topOf, ki_X, kc_X_topOf⟩ kd_X_topOf (by decide) ⟨Nat.le_of_ble_eq_true rfl, Nat.le_of_ble_eq_true rfl⟩ hl.1 rfl (Nat.le_of_ble_eq_true rfl) d_X_isSeen_2 ⟨Nat.le_of_ble_eq_true rfl, Nat.le_of_ble_eq_true rfl⟩ ?_
  refine lv_iload_n hx hb d_X_isSeen_5 rfl (lv_at hl 2 rfl) ?_
  refine lv_isub hx hb d_X_isSeen_6 ?_
  refine ea_ti (y := (ea_I (((ea_tp (σ.1 ln) : Nat) : Int) - (n : Int)))) (ea_sub) ?_
  refine lv_istore_n (lv' := [(3, .int ((ea_I (((ea_tp (σ.1 ln) : Nat) : Int) - (n : Int))))), (0, .ref ((q 0))), (1, .int ((nI ln))), (2, .int ((nI n)))]) hx hb d_X_isSeen_7 rfl hl (by decide) rfl (fun ls hl => ?_)
  refine lv_iload_n hx hb d_X_isSeen_8 rfl (lv_at hl 0 rfl) ?_
  refine lv_if_lt (tgt := 31) hx hb d_X_isSeen_9 (by decide) (fun c1 => ?_) (fun c1 => ?_)
  · have c1 := ((ea_lt' (((ea_tp (σ.1 ln) : Nat) : Int) - (n : Int)) 0 rfl rfl (by omega) (by omega)).mp c1)
    refine lv_iconst (v := 0) hx hb d_X_isSeen_31 (by decide) ?_
    exact ea_retZ hx hb hr hlocks ((if_neg (ea_nab (by omega))).symm) (by split <;> simp) d_X_isSeen_32
  · have c1 := mt ((ea_lt' (((ea_tp (σ.1 ln) : Nat) : Int) - (n : Int)) 0 rfl rfl (by omega) (by omega)).mpr) c1
    have hbit : (u.2.2.1 ln).toBitVec.getLsbD (ea_tp (σ.1 ln) - n) = true ↔ n ∈ σ.1 ln := by
      rw [hbs _ (by omega), ea_bit_iff, show ea_tp (σ.1 ln) - (ea_tp (σ.1 ln) - n) = n by omega]
      exact ⟨fun h => h.2, fun h => ⟨by omega, h⟩⟩
    refine lv_aload_n hx hb d_X_isSeen_12 rfl (lv_at hl 1 rfl) ?_
    refine va_get (ci := 0) (C := R_X) (T := F_X) (N := 10) hx hb hts i_X hown hK hP 0 rfl rfl 2 (by decide) (hts _ kf_X_bits) (fun _ h => h) rfl d_X_isSeen_13 ?_
    refine lv_iload_n hx hb d_X_isSeen_16 rfl (lv_at hl 2 rfl) ?_
    refine ea_lld hx hb hK hP 3 1 rfl rfl (ln) (rfl) (hln) (by decide) (v := (u.2.2.1 ln)) (rfl) d_X_isSeen_17 ?_
    refine lv_iload_n hx hb d_X_isSeen_18 rfl (lv_at hl 0 rfl) ?_
    refine ea_ti (y := (nI (ea_tp (σ.1 ln) - n))) (by rw [ea_In]; exact congrArg ea_I (by omega)) ?_
    refine lv_lushr (v := ((((u.2.2.1 ln) : Int64).toUInt64 >>> (((nI (ea_tp (σ.1 ln) - n)) : Int32).toInt64.toUInt64 &&& Int64.toUInt64 63)).toInt64)) hx hb d_X_isSeen_19 (rfl) ?_
    refine lv_lconst (v := 1) hx hb d_X_isSeen_20 (by decide) ?_
    refine lv_land hx hb d_X_isSeen_21 ?_
    refine ea_tl (y := (if (u.2.2.1 ln).toBitVec.getLsbD (ea_tp (σ.1 ln) - n) then 1 else 0)) (ea_bitv _ (by omega)) ?_
    refine lv_lconst (v := 1) hx hb d_X_isSeen_22 (by decide) ?_
    refine W.lcmp hx hb d_X_isSeen_23 ?_
    refine lv_if_ne (tgt := 31) hx hb d_X_isSeen_24 (by decide) (fun c2 => ?_) (fun c2 => ?_)
    · refine lv_iconst (v := 0) hx hb d_X_isSeen_31 (by decide) ?_
      exact ea_retZ hx hb hr hlocks ((if_neg (fun h => c2 (ea_lg1.mpr (hbit.mpr h)))).symm) (by split <;> simp) d_X_isSeen_32
    · refine lv_iconst (v := 1) hx hb d_X_isSeen_27 (by decide) ?_
      refine lv_goto (tgt := 32) hx hb d_X_isSeen_28 (by decide) ?_
      exact ea_retZ hx hb hr hlocks ((if_pos (hbit.mp (ea_lg1.mp c2))).symm) (by split <;> simp) d_X_isSeen_32
set_option maxHeartbeats 4000000 in
set_option maxRecDepth 100000 in
theorem c_X_accept (l : Launch) (D : va_G) (q : Nat → Nat) (hq : ea_ap 9 q) (cI cJ : ClassId) (w : Nat) (mk : Int64) (hcx : ea_cx w mk) (σ : ea_S) (hok : ea_ok σ) (u : ea_XS) (hR : ea_RX w σ u) (ln : Nat) (hln : ln < 4) (n : Nat) (h1n : 1 ≤ n) (hn : n ≤ 20000) (hnw : ea_tp (σ.1 ln) < n + w) (hnz : n ∉ σ.1 ln) (hlen : (σ.1 ln).length < 60) : Met l y_X_accept (.code y_X_accept b_X_accept 6 none :: ea_tb) (ea_rm 1) (va_Pc [.ref ((q 0)), .int ((nI ln)), .int ((nI n))] (ea_B D (ea_ty cI cJ) (ea_wX q cI cJ (nI w) mk u))) (va_Qv (fun u' : ea_XS => ea_RX w (ea_acc σ ln n) u') (fun u' t => ea_PX D q cI cJ (nI w) mk u' t.heap) (ea_AX 9 q)) 0 0 (ea_AX 9 q) := by
  obtain ⟨th, tl, bs, ps, li, sf, hd, vd⟩ := u
  refine ea_start (by decide) (Nat.le_of_ble_eq_true rfl) ?_
  intro p e s m below meth c ls hx hb hr hlocks hml hown hts hnm hB hl
  have hown : s.vm.findClass R_X = some m.cls := hown
  obtain ⟨hP, hK⟩ := hB
  have hl : lv_has ls 6 [(0, .ref ((q 0))), (1, .int ((nI ln))), (2, .int ((nI n)))] := hl
  have hS : va_S (ea_AX 9 q) s.heap s.heap [] := va_S.rf
  have hD : va_D (ea_AX 9 q) (ea_wX q cI cJ (nI w) mk (th, tl, bs, ps, li, sf, hd, vd)) := ea_DX hq
  obtain ⟨⟨hth, htl, hbs, hps, hli⟩, hsf, hhd, hvd⟩ := hR ln hln
  have hw4 := hcx.1
  have hw64 := hcx.2.1
  have hzo := (hok ln hln).1
  have h15 := ea_tp15 hzo
  have hple := ea_pl_le n (σ.1 ln)
  have hti := ea_tp_ins n (σ.1 ln)
  have tail : ∀ (th1 tl1 : Nat → Int32) (bs1 : Nat → Int64) (H : Heap) (locs : List Loc) (ls : Array Slot), th1 ln = nI (ea_tp (ea_ins n (σ.1 ln)) / 256) → tl1 ln = nI (ea_tp (ea_ins n (σ.1 ln)) % 256) → (∀ k, k < 64 → (bs1 ln).toBitVec.getLsbD k = ea_bit w (ea_ins n (σ.1 ln)) k) → (∀ j, j ≠ ln → th1 j = th j ∧ tl1 j = tl j ∧ bs1 j = bs j) → va_P D ea_cl (ea_wX q cI cJ (nI w) mk (th1, tl1, bs1, ps, li, sf, hd, vd)) H → va_D (ea_AX 9 q) (ea_wX q cI cJ (nI w) mk (th1, tl1, bs1, ps, li, sf, hd, vd)) → va_S (ea_AX 9 q) s.heap H locs → lv_has ls 6 [(0, .ref ((q 0))), (1, .int ((nI ln))), (2, .int ((nI n)))] → W p l e (ea_rm 1) s m [.ref ((q 0)), .int ((nI ln)), .int ((nI n))].toArray below meth c H locs 0 0 (MQ below (va_Qv (fun u' : ea_XS => ea_RX w (ea_acc σ ln n) u') (fun u' t => ea_PX D q cI cJ (nI w) mk u' t.heap) (ea_AX 9 q)) [.ref ((q 0)), .int ((nI ln)), .int ((nI n))].toArray s 0 0 (ea_AX 9 q)) (F0 m 84 ls []) := by
    intro th1 tl1 bs1 H locs ls k1 k2 k3 kO hP hD hS hl
    have loop : ∀ (g : Nat) (li1 : Nat → Int32) (H : Heap) (locs : List Loc) (ls : Array Slot), ea_pl n (σ.1 ln) + g ≤ (σ.1 ln).length → (∀ i, li1 i = if 60 * ln + (ea_pl n (σ.1 ln) + g) < i ∧ i ≤ 60 * ln + (σ.1 ln).length then li (i - 1) else li i) → va_P D ea_cl (ea_wX q cI cJ (nI w) mk (th1, tl1, bs1, ps, li1, sf, hd, vd)) H → va_D (ea_AX 9 q) (ea_wX q cI cJ (nI w) mk (th1, tl1, bs1, ps, li1, sf, hd, vd)) → va_S (ea_AX 9 q) s.heap H locs → lv_has ls 6 [(0, .ref ((q 0))), (1, .int ((nI ln))), (2, .int ((nI n))), (4, .int ((nI (ea_pl n (σ.1 ln))))), (5, .int ((nI (ea_pl n (σ.1 ln) + g))))] → W p l e (ea_rm 1) s m [.ref ((q 0)), .int ((nI ln)), .int ((nI n))].toArray below meth c H locs 0 0 (MQ below (va_Qv (fun u' : ea_XS => ea_RX w (ea_acc σ ln n) u') (fun u' t => ea_PX D q cI cJ (nI w) mk u' t.heap) (ea_AX 9 q)) [.ref ((q 0)), .int ((nI ln)), .int ((nI n))].toArray s 0 0 (ea_AX 9 q)) (F0 m 100 ls []) := by
      intro g
      induction g with
      | zero =>
        intro li1 H locs ls hg hli1 hP hD hS hl
        refine lv_iload hx hb d_X_accept_100 (lv_at hl 4 rfl) ?_
        refine lv_iload hx hb d_X_accept_102 (lv_at hl 3 rfl) ?_
        refine lv_icmp_le (tgt := 139) hx hb d_X_accept_104 (by decide) (fun _ => ?_) (fun c9 => absurd (nI_le (by omega) (by omega)) c9)
        refine lv_aload_n hx hb d_X_accept_139 rfl (lv_at hl 0 rfl) ?_
        refine va_get (ci := 0) (C := R_X) (T := F_X) (N := 10) hx hb hts i_X hown hK hP 0 rfl rfl 4 (by decide) (hts _ kf_X_list) (fun _ h => h) rfl d_X_accept_140 ?_
        refine lv_bipush (v := (nI 60)) hx hb d_X_accept_143 (by decide) ?_
        refine lv_iload_n hx hb d_X_accept_145 rfl (lv_at hl 1 rfl) ?_
        refine lv_imul hx hb d_X_accept_146 ?_
        refine ea_ti (y := (nI (60 * ln))) (pk_mul _ _) ?_
        refine lv_iload hx hb d_X_accept_147 (lv_at hl 3 rfl) ?_
        refine lv_iadd hx hb d_X_accept_149 ?_
        refine ea_ti (y := (nI (60 * ln + ea_pl n (σ.1 ln)))) (nI_add _ _) ?_
        refine lv_iload_n hx hb d_X_accept_150 rfl (lv_at hl 2 rfl) ?_
        refine ea_ist hx hb hK hP hD hS 5 0 rfl rfl (60 * ln + ea_pl n (σ.1 ln)) (rfl) (by omega) (by decide) d_X_accept_151 (fun li2 H locs eli2 hP hD hS => ?_)
        have hP : va_P D ea_cl (ea_wX q cI cJ (nI w) mk (th1, tl1, bs1, ps, li2, sf, hd, vd)) H := hP
        have hD : va_D (ea_AX 9 q) (ea_wX q cI cJ (nI w) mk (th1, tl1, bs1, ps, li2, sf, hd, vd)) := hD
        have eli2 : li2 = upd li1 (60 * ln + ea_pl n (σ.1 ln)) ((nI n)) := eli2
        refine lv_aload_n hx hb d_X_accept_152 rfl (lv_at hl 0 rfl) ?_
        refine va_get (ci := 0) (C := R_X) (T := F_X) (N := 10) hx hb hts i_X hown hK hP 0 rfl rfl 3 (by decide) (hts _ kf_X_passed) (fun _ h => h) rfl d_X_accept_153 ?_
        refine lv_iload_n hx hb d_X_accept_156 rfl (lv_at hl 1 rfl) ?_
        refine lv_dup2_11 hx hb d_X_accept_157 rfl rfl ?_
        refine ea_ild hx hb hK hP 4 0 rfl rfl (ln) (rfl) (hln) (by decide) (v := (nI (σ.1 ln).length)) (hps) d_X_accept_158 ?_
        refine lv_iconst (v := (nI 1)) hx hb d_X_accept_159 (by decide) ?_
        refine lv_iadd hx hb d_X_accept_160 ?_
        refine ea_ti (y := (nI ((σ.1 ln).length + 1))) (nI_add _ _) ?_
        refine ea_ist hx hb hK hP hD hS 4 0 rfl rfl (ln) (rfl) (hln) (by decide) d_X_accept_161 (fun ps1 H locs eps1 hP hD hS => ?_)
        have hP : va_P D ea_cl (ea_wX q cI cJ (nI w) mk (th1, tl1, bs1, ps1, li2, sf, hd, vd)) H := hP
        have hD : va_D (ea_AX 9 q) (ea_wX q cI cJ (nI w) mk (th1, tl1, bs1, ps1, li2, sf, hd, vd)) := hD
        have eps1 : ps1 = upd ps (ln) ((nI ((σ.1 ln).length + 1))) := eps1
        have hfin : ∀ i, li2 i = if i = 60 * ln + ea_pl n (σ.1 ln) then nI n else if 60 * ln + ea_pl n (σ.1 ln) < i ∧ i ≤ 60 * ln + (σ.1 ln).length then li (i - 1) else li i := by
          intro i
          rw [eli2]
          by_cases hi : i = 60 * ln + ea_pl n (σ.1 ln)
          · rw [if_pos hi, hi, pk_us]
          · rw [if_neg hi, pk_un hi, hli1]
            rfl
        exact ea_retV ((th1, tl1, bs1, ps1, li2, sf, hd, vd)) hx hb hr hlocks hS (ea_RX_acc hR hok hln hlen k1 k2 k3 kO eps1 hfin) (hP) d_X_accept_162
      | succ g ih =>
        intro li1 H locs ls hg hli1 hP hD hS hl
        refine lv_iload hx hb d_X_accept_100 (lv_at hl 4 rfl) ?_
        refine lv_iload hx hb d_X_accept_102 (lv_at hl 3 rfl) ?_
        refine lv_icmp_le (tgt := 139) hx hb d_X_accept_104 (by decide) (fun c9 => absurd c9 (nI_ge (by omega) (by omega))) (fun _ => ?_)
        refine lv_aload_n hx hb d_X_accept_107 rfl (lv_at hl 0 rfl) ?_
        refine va_get (ci := 0) (C := R_X) (T := F_X) (N := 10) hx hb hts i_X hown hK hP 0 rfl rfl 4 (by decide) (hts _ kf_X_list) (fun _ h => h) rfl d_X_accept_108 ?_
        refine lv_bipush (v := (nI 60)) hx hb d_X_accept_111 (by decide) ?_
        refine lv_iload_n hx hb d_X_accept_113 rfl (lv_at hl 1 rfl) ?_
        refine lv_imul hx hb d_X_accept_114 ?_
        refine ea_ti (y := (nI (60 * ln))) (pk_mul _ _) ?_
        refine lv_iload hx hb d_X_accept_115 (lv_at hl 4 rfl) ?_
        refine lv_iadd hx hb d_X_accept_117 ?_
        refine ea_ti (y := (nI (60 * ln + (ea_pl n (σ.1 ln) + (g + 1))))) (nI_add _ _) ?_
        refine lv_aload_n hx hb d_X_accept_118 rfl (lv_at hl 0 rfl) ?_
        refine va_get (ci := 0) (C := R_X) (T := F_X) (N := 10) hx hb hts i_X hown hK hP 0 rfl rfl 4 (by decide) (hts _ kf_X_list) (fun _ h => h) rfl d_X_accept_119 ?_
        refine lv_bipush (v := (nI 60)) hx hb d_X_accept_122 (by decide) ?_
        refine lv_iload_n hx hb d_X_accept_124 rfl (lv_at hl 1 rfl) ?_
        refine lv_imul hx hb d_X_accept_125 ?_
        refine ea_ti (y := (nI (60 * ln))) (pk_mul _ _) ?_
        refine lv_iload hx hb d_X_accept_126 (lv_at hl 4 rfl) ?_
        refine lv_iadd hx hb d_X_accept_128 ?_
        refine ea_ti (y := (nI (60 * ln + (ea_pl n (σ.1 ln) + (g + 1))))) (nI_add _ _) ?_
        refine lv_iconst (v := 1) hx hb d_X_accept_129 (by decide) ?_
        refine lv_isub hx hb d_X_accept_130 ?_
        refine ea_ti (y := (nI (60 * ln + (ea_pl n (σ.1 ln) + g)))) (nI_pred _) ?_
        refine ea_ild hx hb hK hP 5 0 rfl rfl (60 * ln + (ea_pl n (σ.1 ln) + g)) (rfl) (by omega) (by decide) (v := (li (60 * ln + (ea_pl n (σ.1 ln) + g)))) ((hli1 _).trans (if_neg (by omega))) d_X_accept_131 ?_
        refine ea_ist hx hb hK hP hD hS 5 0 rfl rfl (60 * ln + (ea_pl n (σ.1 ln) + (g + 1))) (rfl) (by omega) (by decide) d_X_accept_132 (fun li2 H locs eli2 hP hD hS => ?_)
        have hP : va_P D ea_cl (ea_wX q cI cJ (nI w) mk (th1, tl1, bs1, ps, li2, sf, hd, vd)) H := hP
        have hD : va_D (ea_AX 9 q) (ea_wX q cI cJ (nI w) mk (th1, tl1, bs1, ps, li2, sf, hd, vd)) := hD
        have eli2 : li2 = upd li1 (60 * ln + (ea_pl n (σ.1 ln) + (g + 1))) ((li (60 * ln + (ea_pl n (σ.1 ln) + g)))) := eli2
        refine lv_iinc (v := (nI (ea_pl n (σ.1 ln) + g))) (lv' := [(5, .int ((nI (ea_pl n (σ.1 ln) + g)))), (0, .ref ((q 0))), (1, .int ((nI ln))), (2, .int ((nI n))), (4, .int ((nI (ea_pl n (σ.1 ln)))))]) hx hb d_X_accept_133 hl (k := 4) rfl (ea_m1 _) (by decide) rfl (fun ls hl => ?_)
        refine lv_goto (tgt := 100) hx hb d_X_accept_136 (by decide) ?_
        refine ih li2 H locs ls (by omega) (fun i => ?_) hP hD hS (lv_sub hl [1, 2, 3, 4, 0] rfl)
        rw [eli2]
        by_cases hi : i = 60 * ln + (ea_pl n (σ.1 ln) + (g + 1))
        · rw [hi, pk_us, if_pos (by omega)]
          exact congrArg li (by omega)
        · rw [pk_un hi, hli1]
          by_cases h2 : 60 * ln + (ea_pl n (σ.1 ln) + (g + 1)) < i ∧ i ≤ 60 * ln + (σ.1 ln).length
          · rw [if_pos h2, if_pos (by omega)]
          · rw [if_neg h2, if_neg (by omega)]
    refine lv_aload_n hx hb d_X_accept_84 rfl (lv_at hl 0 rfl) ?_
    refine lv_iload_n hx hb d_X_accept_85 rfl (lv_at hl 1 rfl) ?_
    refine lv_iload_n hx hb d_X_accept_86 rfl (lv_at hl 2 rfl) ?_
    refine ea_callR (As := [.int ((nI ln)), .int ((nI n))]) (rest := []) (r := (nI (ea_pl n (σ.1 ln)))) ⟨hx, hb, hml, hown, hts⟩ hK hP rfl rfl (c_X_place l D q cI cJ w mk (th1, tl1, bs1, ps, li, sf, hd, vd) ln hln (σ.1 ln) hzo hps hli n (by omega)) ⟨kl_X_64, kn_X_place, ks_X_place, ki_X, kc_X_place⟩ kd_X_place (by decide) ⟨Nat.le_of_ble_eq_true rfl, Nat.le_of_ble_eq_true rfl⟩ hl.1 rfl (Nat.le_of_ble_eq_true rfl) d_X_accept_87 ⟨Nat.le_of_ble_eq_true rfl, Nat.le_of_ble_eq_true rfl⟩ ?_
    refine lv_istore (lv' := [(4, .int ((nI (ea_pl n (σ.1 ln))))), (0, .ref ((q 0))), (1, .int ((nI ln))), (2, .int ((nI n)))]) hx hb d_X_accept_90 hl (by decide) rfl (fun ls hl => ?_)
    refine lv_aload_n hx hb d_X_accept_92 rfl (lv_at hl 1 rfl) ?_
    refine va_get (ci := 0) (C := R_X) (T := F_X) (N := 10) hx hb hts i_X hown hK hP 0 rfl rfl 3 (by decide) (hts _ kf_X_passed) (fun _ h => h) rfl d_X_accept_93 ?_
    refine lv_iload_n hx hb d_X_accept_96 rfl (lv_at hl 2 rfl) ?_
    refine ea_ild hx hb hK hP 4 0 rfl rfl (ln) (rfl) (hln) (by decide) (v := (nI (σ.1 ln).length)) (hps) d_X_accept_97 ?_
    refine lv_istore (lv' := [(5, .int ((nI (σ.1 ln).length))), (4, .int ((nI (ea_pl n (σ.1 ln))))), (0, .ref ((q 0))), (1, .int ((nI ln))), (2, .int ((nI n)))]) hx hb d_X_accept_98 hl (by decide) rfl (fun ls hl => ?_)
    obtain ⟨g, hg⟩ : ∃ g, (σ.1 ln).length = ea_pl n (σ.1 ln) + g := ⟨(σ.1 ln).length - ea_pl n (σ.1 ln), by omega⟩
    rw [hg] at hl
    exact loop g li H locs ls (by omega) (fun i => (if_neg (by omega)).symm) hP hD hS (lv_sub hl [2, 3, 4, 1, 0] rfl)
  refine lv_iload_n hx hb d_X_accept_0 rfl (lv_at hl 2 rfl) ?_
  refine lv_aload_n hx hb d_X_accept_1 rfl (lv_at hl 0 rfl) ?_
  refine lv_iload_n hx hb d_X_accept_2 rfl (lv_at hl 1 rfl) ?_
  refine ea_callR (As := [.int ((nI ln))]) (rest := [.int ((nI n))]) (r := (nI (ea_tp (σ.1 ln)))) ⟨hx, hb, hml, hown, hts⟩ hK hP rfl rfl (c_X_topOf l D q cI cJ w mk hcx σ hok (th, tl, bs, ps, li, sf, hd, vd) hR ln hln) ⟨kl_X_56, kn_X_topOf, ks_X_topOf, ki_X, kc_X_topOf⟩ kd_X_topOf (by decide) ⟨Nat.le_of_ble_eq_true rfl, Nat.le_of_ble_eq_true rfl⟩ hl.1 rfl (Nat.le_of_ble_eq_true rfl) d_X_accept_3 ⟨Nat.le_of_ble_eq_true rfl, Nat.le_of_ble_eq_true rfl⟩ ?_
  refine lv_isub hx hb d_X_accept_6 ?_
  refine ea_ti (y := (ea_I ((n : Int) - ((ea_tp (σ.1 ln) : Nat) : Int)))) (ea_sub) ?_
  refine lv_istore_n (lv' := [(3, .int ((ea_I ((n : Int) - ((ea_tp (σ.1 ln) : Nat) : Int))))), (0, .ref ((q 0))), (1, .int ((nI ln))), (2, .int ((nI n)))]) hx hb d_X_accept_7 rfl hl (by decide) rfl (fun ls hl => ?_)
  refine lv_iload_n hx hb d_X_accept_8 rfl (lv_at hl 0 rfl) ?_
  refine lv_if_le (tgt := 67) hx hb d_X_accept_9 (by decide) (fun c1 => ?_) (fun c1 => ?_)
  · have c1 := (ea_le' ((n : Int) - ((ea_tp (σ.1 ln) : Nat) : Int)) 0 rfl rfl (by omega) (by omega)).mp c1
    have hneg : -ea_I ((n : Int) - ((ea_tp (σ.1 ln) : Nat) : Int)) = nI (ea_tp (σ.1 ln) - n) := by
      rw [← Int32.zero_sub, show (0 : Int32) = ea_I 0 from rfl, ea_Isub, ea_In]
      exact congrArg ea_I (by omega)
    have hti2 : ea_tp (ea_ins n (σ.1 ln)) = ea_tp (σ.1 ln) := by rw [hti]; omega
    refine lv_aload_n hx hb d_X_accept_67 rfl (lv_at hl 1 rfl) ?_
    refine va_get (ci := 0) (C := R_X) (T := F_X) (N := 10) hx hb hts i_X hown hK hP 0 rfl rfl 2 (by decide) (hts _ kf_X_bits) (fun _ h => h) rfl d_X_accept_68 ?_
    refine lv_iload_n hx hb d_X_accept_71 rfl (lv_at hl 2 rfl) ?_
    refine lv_aload_n hx hb d_X_accept_72 rfl (lv_at hl 1 rfl) ?_
    refine va_get (ci := 0) (C := R_X) (T := F_X) (N := 10) hx hb hts i_X hown hK hP 0 rfl rfl 2 (by decide) (hts _ kf_X_bits) (fun _ h => h) rfl d_X_accept_73 ?_
    refine lv_iload_n hx hb d_X_accept_76 rfl (lv_at hl 2 rfl) ?_
    refine ea_lld hx hb hK hP 3 1 rfl rfl (ln) (rfl) (hln) (by decide) (v := (bs ln)) (rfl) d_X_accept_77 ?_
    refine lv_lconst (v := 1) hx hb d_X_accept_78 (by decide) ?_
    refine lv_iload_n hx hb d_X_accept_79 rfl (lv_at hl 0 rfl) ?_
    refine lv_ineg hx hb d_X_accept_80 ?_
    refine ea_ti (y := (nI (ea_tp (σ.1 ln) - n))) (hneg) ?_
    refine lv_lshl (v := ((1 : Int64) <<< (((nI (ea_tp (σ.1 ln) - n)) : Int32).toInt64 &&& 63))) hx hb d_X_accept_81 (rfl) ?_
    refine lv_lor hx hb d_X_accept_82 ?_
    refine ea_lst hx hb hK hP hD hS 3 1 rfl rfl (ln) (rfl) (hln) (by decide) d_X_accept_83 (fun bs1 H locs ebs1 hP hD hS => ?_)
    have hP : va_P D ea_cl (ea_wX q cI cJ (nI w) mk (th, tl, bs1, ps, li, sf, hd, vd)) H := hP
    have hD : va_D (ea_AX 9 q) (ea_wX q cI cJ (nI w) mk (th, tl, bs1, ps, li, sf, hd, vd)) := hD
    have ebs1 : bs1 = vp_updL bs (ln) (((bs ln) ||| ((1 : Int64) <<< (((nI (ea_tp (σ.1 ln) - n)) : Int32).toInt64 &&& 63)))) := ebs1
    exact tail th tl bs1 H locs ls (by rw [hti2]; exact hth) (by rw [hti2]; exact htl) (by rw [ebs1, pk_uLs]; exact ea_b_in ⟨hw4, hw64⟩ hzo hbs h1n (by omega) hnw) (fun j hj => ⟨rfl, rfl, by rw [ebs1]; exact pk_uLn hj⟩) hP hD hS (lv_sub hl [1, 2, 3] rfl)
  · have c1 := mt (ea_le' ((n : Int) - ((ea_tp (σ.1 ln) : Nat) : Int)) 0 rfl rfl (by omega) (by omega)).mpr c1
    have hti2 : ea_tp (ea_ins n (σ.1 ln)) = n := by rw [hti]; omega
    refine lv_aload_n hx hb d_X_accept_12 rfl (lv_at hl 1 rfl) ?_
    refine va_get (ci := 0) (C := R_X) (T := F_X) (N := 10) hx hb hts i_X hown hK hP 0 rfl rfl 2 (by decide) (hts _ kf_X_bits) (fun _ h => h) rfl d_X_accept_13 ?_
    refine lv_iload_n hx hb d_X_accept_16 rfl (lv_at hl 2 rfl) ?_
    refine lv_iload_n hx hb d_X_accept_17 rfl (lv_at hl 0 rfl) ?_
    refine lv_bipush (v := 63) hx hb d_X_accept_18 (by decide) ?_
    refine lv_icmp_le (tgt := 27) hx hb d_X_accept_20 (by decide) (fun c2 => ?_) (fun c2 => ?_)
    · have c2 := (ea_le' ((n : Int) - ((ea_tp (σ.1 ln) : Nat) : Int)) 63 rfl rfl (by omega) (by omega)).mp c2
      refine lv_aload_n hx hb d_X_accept_27 rfl (lv_at hl 1 rfl) ?_
      refine va_get (ci := 0) (C := R_X) (T := F_X) (N := 10) hx hb hts i_X hown hK hP 0 rfl rfl 2 (by decide) (hts _ kf_X_bits) (fun _ h => h) rfl d_X_accept_28 ?_
      refine lv_iload_n hx hb d_X_accept_31 rfl (lv_at hl 2 rfl) ?_
      refine ea_lld hx hb hK hP 3 1 rfl rfl (ln) (rfl) (hln) (by decide) (v := (bs ln)) (rfl) d_X_accept_32 ?_
      refine lv_iload_n hx hb d_X_accept_33 rfl (lv_at hl 0 rfl) ?_
      refine ea_ti (y := (nI (n - ea_tp (σ.1 ln)))) (by rw [ea_In]; exact congrArg ea_I (by omega)) ?_
      refine lv_lshl (v := (((bs ln) : Int64) <<< (((nI (n - ea_tp (σ.1 ln))) : Int32).toInt64 &&& 63))) hx hb d_X_accept_34 (rfl) ?_
      refine lv_lconst (v := 1) hx hb d_X_accept_35 (by decide) ?_
      refine lv_lor hx hb d_X_accept_36 ?_
      refine lv_aload_n hx hb d_X_accept_37 rfl (lv_at hl 1 rfl) ?_
      refine va_get (ci := 0) (C := R_X) (T := F_X) (N := 10) hx hb hts i_X hown hK hP 0 rfl rfl 9 (by decide) (hts _ kf_X_mask) (fun _ h => h) rfl d_X_accept_38 ?_
      refine lv_land hx hb d_X_accept_41 ?_
      refine ea_lst hx hb hK hP hD hS 3 1 rfl rfl (ln) (rfl) (hln) (by decide) d_X_accept_42 (fun bs1 H locs ebs1 hP hD hS => ?_)
      have hP : va_P D ea_cl (ea_wX q cI cJ (nI w) mk (th, tl, bs1, ps, li, sf, hd, vd)) H := hP
      have hD : va_D (ea_AX 9 q) (ea_wX q cI cJ (nI w) mk (th, tl, bs1, ps, li, sf, hd, vd)) := hD
      have ebs1 : bs1 = vp_updL bs (ln) ((((((bs ln) : Int64) <<< (((nI (n - ea_tp (σ.1 ln))) : Int32).toInt64 &&& 63)) ||| 1) &&& mk)) := ebs1
      refine lv_aload_n hx hb d_X_accept_43 rfl (lv_at hl 1 rfl) ?_
      refine va_get (ci := 0) (C := R_X) (T := F_X) (N := 10) hx hb hts i_X hown hK hP 0 rfl rfl 0 (by decide) (hts _ kf_X_topHigh) (fun _ h => h) rfl d_X_accept_44 ?_
      refine lv_iload_n hx hb d_X_accept_47 rfl (lv_at hl 2 rfl) ?_
      refine lv_iload_n hx hb d_X_accept_48 rfl (lv_at hl 3 rfl) ?_
      refine lv_bipush (v := 8) hx hb d_X_accept_49 (by decide) ?_
      refine lv_ishr hx hb d_X_accept_51 ?_
      refine ea_ti (y := (nI (n / 256))) (pk_shrN (by omega) _ 8 (by decide)) ?_
      refine ea_ist hx hb hK hP hD hS 1 0 rfl rfl (ln) (rfl) (hln) (by decide) d_X_accept_52 (fun th1 H locs eth1 hP hD hS => ?_)
      have hP : va_P D ea_cl (ea_wX q cI cJ (nI w) mk (th1, tl, bs1, ps, li, sf, hd, vd)) H := hP
      have hD : va_D (ea_AX 9 q) (ea_wX q cI cJ (nI w) mk (th1, tl, bs1, ps, li, sf, hd, vd)) := hD
      have eth1 : th1 = upd th (ln) ((nI (n / 256))) := eth1
      refine lv_aload_n hx hb d_X_accept_53 rfl (lv_at hl 1 rfl) ?_
      refine va_get (ci := 0) (C := R_X) (T := F_X) (N := 10) hx hb hts i_X hown hK hP 0 rfl rfl 1 (by decide) (hts _ kf_X_topLow) (fun _ h => h) rfl d_X_accept_54 ?_
      refine lv_iload_n hx hb d_X_accept_57 rfl (lv_at hl 2 rfl) ?_
      refine lv_iload_n hx hb d_X_accept_58 rfl (lv_at hl 3 rfl) ?_
      refine lv_sipush (v := 255) hx hb d_X_accept_59 (by decide) ?_
      refine lv_iand hx hb d_X_accept_62 ?_
      refine ea_ti (y := (nI (n % 256))) (pk_andN (by omega) 8 (by decide)) ?_
      refine ea_ist hx hb hK hP hD hS 2 0 rfl rfl (ln) (rfl) (hln) (by decide) d_X_accept_63 (fun tl1 H locs etl1 hP hD hS => ?_)
      have hP : va_P D ea_cl (ea_wX q cI cJ (nI w) mk (th1, tl1, bs1, ps, li, sf, hd, vd)) H := hP
      have hD : va_D (ea_AX 9 q) (ea_wX q cI cJ (nI w) mk (th1, tl1, bs1, ps, li, sf, hd, vd)) := hD
      have etl1 : tl1 = upd tl (ln) ((nI (n % 256))) := etl1
      refine lv_goto (tgt := 84) hx hb d_X_accept_64 (by decide) ?_
      exact tail th1 tl1 bs1 H locs ls (by rw [hti2, eth1, pk_us]) (by rw [hti2, etl1, pk_us]) (by rw [ebs1, pk_uLs]; exact ea_b_near hcx hzo hbs (d := n - ea_tp (σ.1 ln)) (by omega) (by omega) (by omega)) (fun j hj => ⟨by rw [eth1]; exact pk_un hj, by rw [etl1]; exact pk_un hj, by rw [ebs1]; exact pk_uLn hj⟩) hP hD hS (lv_sub hl [1, 2, 3] rfl)
    · have c2 := mt (ea_le' ((n : Int) - ((ea_tp (σ.1 ln) : Nat) : Int)) 63 rfl rfl (by omega) (by omega)).mpr c2
      refine lv_lconst (v := 1) hx hb d_X_accept_23 (by decide) ?_
      refine lv_goto (tgt := 42) hx hb d_X_accept_24 (by decide) ?_
      refine ea_lst hx hb hK hP hD hS 3 1 rfl rfl (ln) (rfl) (hln) (by decide) d_X_accept_42 (fun bs1 H locs ebs1 hP hD hS => ?_)
      have hP : va_P D ea_cl (ea_wX q cI cJ (nI w) mk (th, tl, bs1, ps, li, sf, hd, vd)) H := hP
      have hD : va_D (ea_AX 9 q) (ea_wX q cI cJ (nI w) mk (th, tl, bs1, ps, li, sf, hd, vd)) := hD
      have ebs1 : bs1 = vp_updL bs (ln) (1) := ebs1
      refine lv_aload_n hx hb d_X_accept_43 rfl (lv_at hl 1 rfl) ?_
      refine va_get (ci := 0) (C := R_X) (T := F_X) (N := 10) hx hb hts i_X hown hK hP 0 rfl rfl 0 (by decide) (hts _ kf_X_topHigh) (fun _ h => h) rfl d_X_accept_44 ?_
      refine lv_iload_n hx hb d_X_accept_47 rfl (lv_at hl 2 rfl) ?_
      refine lv_iload_n hx hb d_X_accept_48 rfl (lv_at hl 3 rfl) ?_
      refine lv_bipush (v := 8) hx hb d_X_accept_49 (by decide) ?_
      refine lv_ishr hx hb d_X_accept_51 ?_
      refine ea_ti (y := (nI (n / 256))) (pk_shrN (by omega) _ 8 (by decide)) ?_
      refine ea_ist hx hb hK hP hD hS 1 0 rfl rfl (ln) (rfl) (hln) (by decide) d_X_accept_52 (fun th1 H locs eth1 hP hD hS => ?_)
      have hP : va_P D ea_cl (ea_wX q cI cJ (nI w) mk (th1, tl, bs1, ps, li, sf, hd, vd)) H := hP
      have hD : va_D (ea_AX 9 q) (ea_wX q cI cJ (nI w) mk (th1, tl, bs1, ps, li, sf, hd, vd)) := hD
      have eth1 : th1 = upd th (ln) ((nI (n / 256))) := eth1
      refine lv_aload_n hx hb d_X_accept_53 rfl (lv_at hl 1 rfl) ?_
      refine va_get (ci := 0) (C := R_X) (T := F_X) (N := 10) hx hb hts i_X hown hK hP 0 rfl rfl 1 (by decide) (hts _ kf_X_topLow) (fun _ h => h) rfl d_X_accept_54 ?_
      refine lv_iload_n hx hb d_X_accept_57 rfl (lv_at hl 2 rfl) ?_
      refine lv_iload_n hx hb d_X_accept_58 rfl (lv_at hl 3 rfl) ?_
      refine lv_sipush (v := 255) hx hb d_X_accept_59 (by decide) ?_
      refine lv_iand hx hb d_X_accept_62 ?_
      refine ea_ti (y := (nI (n % 256))) (pk_andN (by omega) 8 (by decide)) ?_
      refine ea_ist hx hb hK hP hD hS 2 0 rfl rfl (ln) (rfl) (hln) (by decide) d_X_accept_63 (fun tl1 H locs etl1 hP hD hS => ?_)
      have hP : va_P D ea_cl (ea_wX q cI cJ (nI w) mk (th1, tl1, bs1, ps, li, sf, hd, vd)) H := hP
      have hD : va_D (ea_AX 9 q) (ea_wX q cI cJ (nI w) mk (th1, tl1, bs1, ps, li, sf, hd, vd)) := hD
      have etl1 : tl1 = upd tl (ln) ((nI (n % 256))) := etl1
      refine lv_goto (tgt := 84) hx hb d_X_accept_64 (by decide) ?_
      exact tail th1 tl1 bs1 H locs ls (by rw [hti2, eth1, pk_us]) (by rw [hti2, etl1, pk_us]) (by rw [ebs1, pk_uLs]; exact ea_b_far ⟨hw4, hw64⟩ hzo (by omega)) (fun j hj => ⟨by rw [eth1]; exact pk_un hj, by rw [etl1]; exact pk_un hj, by rw [ebs1]; exact pk_uLn hj⟩) hP hD hS (lv_sub hl [1, 2, 3] rfl)
set_option maxHeartbeats 4000000 in
set_option maxRecDepth 100000 in
theorem c_X_judge (l : Launch) (D : va_G) (q : Nat → Nat) (hq : ea_ap 9 q) (cI cJ : ClassId) (w : Nat) (mk : Int64) (hcx : ea_cx w mk) (σ : ea_S) (hok : ea_ok σ) (u : ea_XS) (hR : ea_RX w σ u) (ln : Nat) (hln : ln < 4) (lo : Nat) (hlo : lo < 256) (pr : Bool) (b : Int32) (hpb : pr = true ↔ ¬ b = 0) : Met l y_X_judge (.code y_X_judge b_X_judge 6 (some .int) :: ea_tb) (ea_rm 2) (va_Pc [.ref ((q 0)), .int ((nI ln)), .int ((nI lo)), .int b] (ea_B D (ea_ty cI cJ) (ea_wX q cI cJ (nI w) mk u))) (va_Qi (fun (r : Int32) (u' : ea_XS) => r = nI (ea_vd w σ ln lo pr) ∧ ea_RX w (ea_ju w σ ln lo pr) u') (fun u' t => ea_PX D q cI cJ (nI w) mk u' t.heap) (ea_AX 9 q)) 0 0 (ea_AX 9 q) := by
  obtain ⟨th, tl, bs, ps, li, sf, hd, vd⟩ := u
  refine ea_start (by decide) (Nat.le_of_ble_eq_true rfl) ?_
  intro p e s m below meth c ls hx hb hr hlocks hml hown hts hnm hB hl
  have hown : s.vm.findClass R_X = some m.cls := hown
  obtain ⟨hP, hK⟩ := hB
  have hl : lv_has ls 6 [(0, .ref ((q 0))), (1, .int ((nI ln))), (2, .int ((nI lo))), (3, .int b)] := hl
  have hS : va_S (ea_AX 9 q) s.heap s.heap [] := va_S.rf
  have hD : va_D (ea_AX 9 q) (ea_wX q cI cJ (nI w) mk (th, tl, bs, ps, li, sf, hd, vd)) := ea_DX hq
  obtain ⟨⟨hth, htl, hbs, hps, hli⟩, hsf, hhd, hvd⟩ := hR ln hln
  have hw4 := hcx.1
  have hw64 := hcx.2.1
  have hzo := (hok ln hln).1
  have h15 := ea_tp15 hzo
  have hib := ea_inf_b (w := w) (t := ea_tp (σ.1 ln)) (low := lo) hw64
  obtain ⟨-, ⟨hd1, hd60⟩, -⟩ := hok ln hln
  have hlen60 := hzo.2.2.1
  have tail : ∀ (σ1 : ea_S) (k : Nat) (th1 tl1 : Nat → Int32) (bs1 : Nat → Int64) (ps1 li1 sf1 hd1 vd1 : Nat → Int32) (H : Heap) (locs : List Loc) (ls : Array Slot), (1 ≤ k ∧ k ≤ 5) → ea_vd w σ ln lo pr = k → (if k = 1 then ea_acc σ ln (ea_sn w σ ln lo) else σ) = σ1 → ea_RX w σ1 (th1, tl1, bs1, ps1, li1, sf1, hd1, vd1) → va_P D ea_cl (ea_wX q cI cJ (nI w) mk (th1, tl1, bs1, ps1, li1, sf1, hd1, vd1)) H → va_D (ea_AX 9 q) (ea_wX q cI cJ (nI w) mk (th1, tl1, bs1, ps1, li1, sf1, hd1, vd1)) → va_S (ea_AX 9 q) s.heap H locs → lv_has ls 6 [(1, .int ((nI ln))), (0, .ref ((q 0))), (5, .int ((nI k)))] → W p l e (ea_rm 2) s m [.ref ((q 0)), .int ((nI ln)), .int ((nI lo)), .int b].toArray below meth c H locs 0 0 (MQ below (va_Qi (fun (r : Int32) (u' : ea_XS) => r = nI (ea_vd w σ ln lo pr) ∧ ea_RX w (ea_ju w σ ln lo pr) u') (fun u' t => ea_PX D q cI cJ (nI w) mk u' t.heap) (ea_AX 9 q)) [.ref ((q 0)), .int ((nI ln)), .int ((nI lo)), .int b].toArray s 0 0 (ea_AX 9 q)) (F0 m 77 ls []) := by
    intro σ1 k th1 tl1 bs1 ps1 li1 sf1 hd1 vd1 H locs ls hk hvk hσ hR1 hP hD hS hl
    refine lv_aload_n hx hb d_X_judge_77 rfl (lv_at hl 1 rfl) ?_
    refine va_get (ci := 0) (C := R_X) (T := F_X) (N := 10) hx hb hts i_X hown hK hP 0 rfl rfl 7 (by decide) (hts _ kf_X_verdicts) (fun _ h => h) rfl d_X_judge_78 ?_
    refine lv_bipush (v := (nI 6)) hx hb d_X_judge_81 (by decide) ?_
    refine lv_iload_n hx hb d_X_judge_83 rfl (lv_at hl 0 rfl) ?_
    refine lv_imul hx hb d_X_judge_84 ?_
    refine ea_ti (y := (nI (6 * ln))) (pk_mul _ _) ?_
    refine lv_iload hx hb d_X_judge_85 (lv_at hl 2 rfl) ?_
    refine lv_iadd hx hb d_X_judge_87 ?_
    refine ea_ti (y := (nI (6 * ln + k))) (nI_add _ _) ?_
    refine lv_dup2_11 hx hb d_X_judge_88 rfl rfl ?_
    refine ea_ild hx hb hK hP 8 0 rfl rfl (6 * ln + k) (rfl) (by omega) (by decide) (v := (vd1 (6 * ln + k))) (rfl) d_X_judge_89 ?_
    refine lv_iconst (v := 1) hx hb d_X_judge_90 (by decide) ?_
    refine lv_iadd hx hb d_X_judge_91 ?_
    refine ea_ist hx hb hK hP hD hS 8 0 rfl rfl (6 * ln + k) (rfl) (by omega) (by decide) d_X_judge_92 (fun vd2 H locs evd2 hP hD hS => ?_)
    have hP : va_P D ea_cl (ea_wX q cI cJ (nI w) mk (th1, tl1, bs1, ps1, li1, sf1, hd1, vd2)) H := hP
    have hD : va_D (ea_AX 9 q) (ea_wX q cI cJ (nI w) mk (th1, tl1, bs1, ps1, li1, sf1, hd1, vd2)) := hD
    have evd2 : vd2 = upd vd1 (6 * ln + k) (((vd1 (6 * ln + k)) + 1)) := evd2
    refine lv_iload hx hb d_X_judge_93 (lv_at hl 2 rfl) ?_
    exact ea_retW ((th1, tl1, bs1, ps1, li1, sf1, hd1, vd2)) hx hb hr hlocks hS (⟨by rw [hvk], by unfold ea_ju; rw [hvk, hσ]; exact ea_RX_cnt hR1 hln hk evd2⟩) (hP) d_X_judge_95
  refine lv_aload_n hx hb d_X_judge_0 rfl (lv_at hl 0 rfl) ?_
  refine lv_iload_n hx hb d_X_judge_1 rfl (lv_at hl 1 rfl) ?_
  refine lv_iload_n hx hb d_X_judge_2 rfl (lv_at hl 2 rfl) ?_
  refine ea_callR (As := [.int ((nI ln)), .int ((nI lo))]) (rest := []) (r := (ea_I (ea_inf w (ea_tp (σ.1 ln)) lo))) ⟨hx, hb, hml, hown, hts⟩ hK hP rfl rfl (c_X_infer l D q cI cJ w mk hcx σ hok (th, tl, bs, ps, li, sf, hd, vd) hR ln hln lo hlo) ⟨kl_X_60, kn_X_infer, ks_X_infer, ki_X, kc_X_infer⟩ kd_X_infer (by decide) ⟨Nat.le_of_ble_eq_true rfl, Nat.le_of_ble_eq_true rfl⟩ hl.1 rfl (Nat.le_of_ble_eq_true rfl) d_X_judge_3 ⟨Nat.le_of_ble_eq_true rfl, Nat.le_of_ble_eq_true rfl⟩ ?_
  refine lv_istore (lv' := [(4, .int ((ea_I (ea_inf w (ea_tp (σ.1 ln)) lo)))), (0, .ref ((q 0))), (1, .int ((nI ln))), (2, .int ((nI lo))), (3, .int b)]) hx hb d_X_judge_6 hl (by decide) rfl (fun ls hl => ?_)
  refine lv_iconst (v := (nI 1)) hx hb d_X_judge_8 (by decide) ?_
  refine lv_istore (lv' := [(5, .int ((nI 1))), (4, .int ((ea_I (ea_inf w (ea_tp (σ.1 ln)) lo)))), (0, .ref ((q 0))), (1, .int ((nI ln))), (2, .int ((nI lo))), (3, .int b)]) hx hb d_X_judge_9 hl (by decide) rfl (fun ls hl => ?_)
  refine lv_aload_n hx hb d_X_judge_11 rfl (lv_at hl 2 rfl) ?_
  refine va_get (ci := 0) (C := R_X) (T := F_X) (N := 10) hx hb hts i_X hown hK hP 0 rfl rfl 3 (by decide) (hts _ kf_X_passed) (fun _ h => h) rfl d_X_judge_12 ?_
  refine lv_iload_n hx hb d_X_judge_15 rfl (lv_at hl 3 rfl) ?_
  refine ea_ild hx hb hK hP 4 0 rfl rfl (ln) (rfl) (hln) (by decide) (v := (nI (σ.1 ln).length)) (hps) d_X_judge_16 ?_
  refine lv_aload_n hx hb d_X_judge_17 rfl (lv_at hl 2 rfl) ?_
  refine va_get (ci := 0) (C := R_X) (T := F_X) (N := 10) hx hb hts i_X hown hK hP 0 rfl rfl 6 (by decide) (hts _ kf_X_hard) (fun _ h => h) rfl d_X_judge_18 ?_
  refine lv_iload_n hx hb d_X_judge_21 rfl (lv_at hl 3 rfl) ?_
  refine ea_ild hx hb hK hP 7 0 rfl rfl (ln) (rfl) (hln) (by decide) (v := (nI (σ.2.2.1 ln))) (hhd) d_X_judge_22 ?_
  refine lv_icmp_lt (tgt := 32) hx hb d_X_judge_23 (by decide) (fun c1 => ?_) (fun c1 => ?_)
  · have c1 := (nI_ltI (by omega) (by omega)).mp c1
    refine lv_iload hx hb d_X_judge_32 (lv_at hl 1 rfl) ?_
    refine lv_iconst (v := 1) hx hb d_X_judge_34 (by decide) ?_
    refine lv_icmp_ge (tgt := 44) hx hb d_X_judge_35 (by decide) (fun c2 => ?_) (fun c2 => ?_)
    · have c2 := (ea_le' 1 (ea_inf w (ea_tp (σ.1 ln)) lo) rfl rfl (by omega) (by omega)).mp c2
      have hsn : ((ea_sn w σ ln lo : Nat) : Int) = (ea_inf w (ea_tp (σ.1 ln)) lo) := by unfold ea_sn; exact Int.toNat_of_nonneg (by omega)
      refine lv_aload_n hx hb d_X_judge_44 rfl (lv_at hl 2 rfl) ?_
      refine lv_iload_n hx hb d_X_judge_45 rfl (lv_at hl 3 rfl) ?_
      refine lv_iload hx hb d_X_judge_46 (lv_at hl 1 rfl) ?_
      refine ea_ti (y := (nI (ea_sn w σ ln lo))) (by rw [ea_In, hsn]) ?_
      refine ea_callR (As := [.int ((nI ln)), .int ((nI (ea_sn w σ ln lo)))]) (rest := []) (r := (if (ea_sn w σ ln lo) ∈ σ.1 ln then 1 else 0)) ⟨hx, hb, hml, hown, hts⟩ hK hP rfl rfl (c_X_isSeen l D q cI cJ w mk hcx σ hok (th, tl, bs, ps, li, sf, hd, vd) hR ln hln (ea_sn w σ ln lo) (by omega) (by omega)) ⟨kl_X_79, kn_X_isSeen, ks_X_isSeen, ki_X, kc_X_isSeen⟩ kd_X_isSeen (by decide) ⟨Nat.le_of_ble_eq_true rfl, Nat.le_of_ble_eq_true rfl⟩ hl.1 rfl (Nat.le_of_ble_eq_true rfl) d_X_judge_48 ⟨Nat.le_of_ble_eq_true rfl, Nat.le_of_ble_eq_true rfl⟩ ?_
      refine lv_if_eq (tgt := 60) hx hb d_X_judge_51 (by decide) (fun c3 => ?_) (fun c3 => ?_)
      · have c3 : (ea_sn w σ ln lo) ∉ σ.1 ln := by
          intro h
          rw [if_pos h] at c3
          exact absurd c3 (by decide)
        refine lv_iload_n hx hb d_X_judge_60 rfl (lv_at hl 5 rfl) ?_
        refine lv_if_ne (tgt := 70) hx hb d_X_judge_61 (by decide) (fun c4 => ?_) (fun c4 => ?_)
        · have hpt : pr = true := hpb.mpr c4
          refine lv_aload_n hx hb d_X_judge_70 rfl (lv_at hl 2 rfl) ?_
          refine lv_iload_n hx hb d_X_judge_71 rfl (lv_at hl 3 rfl) ?_
          refine lv_iload hx hb d_X_judge_72 (lv_at hl 1 rfl) ?_
          refine ea_ti (y := (nI (ea_sn w σ ln lo))) (by rw [ea_In, hsn]) ?_
          refine ea_callV (As := [.int ((nI ln)), .int ((nI (ea_sn w σ ln lo)))]) (rest := []) ⟨hx, hb, hml, hown, hts⟩ hK hP rfl rfl (c_X_accept l D q hq cI cJ w mk hcx σ hok (th, tl, bs, ps, li, sf, hd, vd) hR ln hln (ea_sn w σ ln lo) (by omega) (by omega) (by omega) c3 (by omega)) ⟨kl_X_83, kn_X_accept, ks_X_accept, ki_X, kc_X_accept⟩ kd_X_accept (by decide) ⟨Nat.le_of_ble_eq_true rfl, Nat.le_of_ble_eq_true rfl⟩ hl.1 rfl (Nat.le_of_ble_eq_true rfl) d_X_judge_74 ⟨Nat.le_of_ble_eq_true rfl, Nat.le_of_ble_eq_true rfl⟩ hS (fun _ h => h) (fun u1 H locs hR1 hPU hz hk hS => ?_)
          obtain ⟨th1, tl1, bs1, ps1, li1, sf1, hd1, vd1⟩ := u1
          have hP : va_P D ea_cl (ea_wX q cI cJ (nI w) mk (th1, tl1, bs1, ps1, li1, sf1, hd1, vd1)) H := hPU
          exact tail (ea_acc σ ln (ea_sn w σ ln lo)) 1 th1 tl1 bs1 ps1 li1 sf1 hd1 vd1 _ _ ls (by decide) (by unfold ea_vd; rw [if_neg (by omega), if_neg (by omega), hpt]; exact (if_neg c3).trans rfl) (if_pos rfl) hR1 hP (ea_DX hq) hS (lv_sub hl [3, 2, 0] rfl)
        · have hpf : pr = false := by
            cases pr
            · rfl
            · exact absurd c4 (hpb.mp rfl)
          refine lv_iconst (v := (nI 4)) hx hb d_X_judge_64 (by decide) ?_
          refine lv_istore (lv' := [(5, .int ((nI 4))), (4, .int ((ea_I (ea_inf w (ea_tp (σ.1 ln)) lo)))), (0, .ref ((q 0))), (1, .int ((nI ln))), (2, .int ((nI lo))), (3, .int b)]) hx hb d_X_judge_65 hl (by decide) rfl (fun ls hl => ?_)
          refine lv_goto (tgt := 77) hx hb d_X_judge_67 (by decide) ?_
          exact tail σ 4 th tl bs ps li sf hd vd _ _ ls (by decide) (by unfold ea_vd; rw [if_neg (by omega), if_neg (by omega), hpf]; exact (if_neg c3).trans rfl) (if_neg (by decide)) hR hP hD hS (lv_sub hl [3, 2, 0] rfl)
      · have c3 : (ea_sn w σ ln lo) ∈ σ.1 ln := by
          by_cases h : (ea_sn w σ ln lo) ∈ σ.1 ln
          · exact h
          · exact absurd (if_neg h) c3
        refine lv_iconst (v := (nI 2)) hx hb d_X_judge_54 (by decide) ?_
        refine lv_istore (lv' := [(5, .int ((nI 2))), (4, .int ((ea_I (ea_inf w (ea_tp (σ.1 ln)) lo)))), (0, .ref ((q 0))), (1, .int ((nI ln))), (2, .int ((nI lo))), (3, .int b)]) hx hb d_X_judge_55 hl (by decide) rfl (fun ls hl => ?_)
        refine lv_goto (tgt := 77) hx hb d_X_judge_57 (by decide) ?_
        exact tail σ 2 th tl bs ps li sf hd vd _ _ ls (by decide) (by unfold ea_vd; rw [if_neg (by omega), if_neg (by omega)]; exact if_pos c3) (if_neg (by decide)) hR hP hD hS (lv_sub hl [3, 2, 0] rfl)
    · have c2 := mt (ea_le' 1 (ea_inf w (ea_tp (σ.1 ln)) lo) rfl rfl (by omega) (by omega)).mpr c2
      refine lv_iconst (v := (nI 3)) hx hb d_X_judge_38 (by decide) ?_
      refine lv_istore (lv' := [(5, .int ((nI 3))), (4, .int ((ea_I (ea_inf w (ea_tp (σ.1 ln)) lo)))), (0, .ref ((q 0))), (1, .int ((nI ln))), (2, .int ((nI lo))), (3, .int b)]) hx hb d_X_judge_39 hl (by decide) rfl (fun ls hl => ?_)
      refine lv_goto (tgt := 77) hx hb d_X_judge_41 (by decide) ?_
      exact tail σ 3 th tl bs ps li sf hd vd _ _ ls (by decide) (by unfold ea_vd; rw [if_neg (by omega), if_pos (by omega)]) (if_neg (by decide)) hR hP hD hS (lv_sub hl [3, 2, 0] rfl)
  · have c1 := mt (nI_ltI (by omega) (by omega)).mpr c1
    refine lv_iconst (v := (nI 5)) hx hb d_X_judge_26 (by decide) ?_
    refine lv_istore (lv' := [(5, .int ((nI 5))), (4, .int ((ea_I (ea_inf w (ea_tp (σ.1 ln)) lo)))), (0, .ref ((q 0))), (1, .int ((nI ln))), (2, .int ((nI lo))), (3, .int b)]) hx hb d_X_judge_27 hl (by decide) rfl (fun ls hl => ?_)
    refine lv_goto (tgt := 77) hx hb d_X_judge_29 (by decide) ?_
    exact tail σ 5 th tl bs ps li sf hd vd _ _ ls (by decide) (if_pos (by omega)) (if_neg (by decide)) hR hP hD hS (lv_sub hl [3, 2, 0] rfl)
end
section
/-! ===== counting bits, byte by byte ===== -/
def ea_N (c : Int64) : Nat := c.toBitVec.toNat
theorem ea_N_lt (c : Int64) : ea_N c < 18446744073709551616 := c.toBitVec.isLt
theorem ea_N_and (a b : Int64) : ea_N (a &&& b) = ea_N a &&& ea_N b := by
  unfold ea_N
  rw [Int64.toBitVec_and, BitVec.toNat_and]
theorem ea_N_add {a b : Int64} (h : ea_N a + ea_N b < 18446744073709551616) : ea_N (a + b) = ea_N a + ea_N b := by
  unfold ea_N at h ⊢
  rw [Int64.toBitVec_add, BitVec.toNat_add]
  exact Nat.mod_eq_of_lt h
theorem ea_N_sub {a b : Int64} (h : ea_N b ≤ ea_N a) : ea_N (a - b) = ea_N a - ea_N b := by
  unfold ea_N at h ⊢
  rw [Int64.toBitVec_sub, BitVec.toNat_sub_of_le (BitVec.le_def.mpr h)]
theorem ea_N_mul (a b : Int64) : ea_N (a * b) = ea_N a * ea_N b % 18446744073709551616 := by
  unfold ea_N
  rw [Int64.toBitVec_mul, BitVec.toNat_mul]
theorem ea_N_shr (c : Int64) {k : Nat} (hk : k < 64) : ea_N (c.toUInt64 >>> ((nI k).toInt64.toUInt64 &&& Int64.toUInt64 63)).toInt64 = ea_N c / 2 ^ k := by
  unfold ea_N
  rw [ea_ushr c hk, BitVec.toNat_ushiftRight, Nat.shiftRight_eq_div_pow]
theorem ea_and8 {a b : Nat} (y z : Nat) (ha : a < 256) (hb : b < 256) : (a + 256 * y) &&& (b + 256 * z) = (a &&& b) + 256 * (y &&& z) := by
  have h1 : ((a + 256 * y) &&& (b + 256 * z)) % 2 ^ 8 = a &&& b := by
    rw [Nat.and_mod_two_pow, show (a + 256 * y) % 2 ^ 8 = a by omega, show (b + 256 * z) % 2 ^ 8 = b by omega]
  have h2 : ((a + 256 * y) &&& (b + 256 * z)) / 2 ^ 8 = y &&& z := by
    rw [Nat.and_div_two_pow, show (a + 256 * y) / 2 ^ 8 = y by omega, show (b + 256 * z) / 2 ^ 8 = z by omega]
  have h3 := Nat.mod_add_div ((a + 256 * y) &&& (b + 256 * z)) (2 ^ 8)
  rw [h1, h2] at h3
  exact h3.symm
/-- a number out of its bytes -/
def ea_val : List Nat → Nat
  | [] => 0
  | a :: t => a + 256 * ea_val t
/-- the mask m at every byte -/
def ea_mm (m : Nat) : Nat → Nat
  | 0 => 0
  | n + 1 => m + 256 * ea_mm m n
def ea_g1 (a : Nat) : Nat := a - (a / 2 &&& 85)
def ea_g2 (a : Nat) : Nat := (a &&& 51) + (a / 4 &&& 51)
def ea_g3 (a : Nat) : Nat := (a + a / 16) &&& 15
theorem ea_k1 : ∀ a, a < 256 → ∀ b, b < 2 → ((a / 2 + 128 * b) &&& 85 = a / 2 &&& 85) ∧ (a / 2 &&& 85) ≤ a := by decide +kernel
theorem ea_k2 : ∀ a, a < 256 → ∀ b, b < 4 → ((a / 4 + 64 * b) &&& 51 = a / 4 &&& 51) := by decide +kernel
theorem ea_k3 : ∀ a, a < 69 → ∀ b, b < 5 → ((a + a / 16 + 16 * b) &&& 15 = ea_g3 a) := by decide +kernel
theorem ea_k4 : ∀ a, a < 256 → ea_g1 a < 256 ∧ ea_g2 (ea_g1 a) < 69 ∧ ea_g2 (ea_g1 a) % 16 < 5 ∧ ea_g3 (ea_g2 (ea_g1 a)) ≤ 8 := by decide +kernel
theorem ea_k5 : ∀ a, a < 256 → ea_g3 (ea_g2 (ea_g1 a)) = a % 2 + a / 2 % 2 + a / 4 % 2 + a / 8 % 2 + a / 16 % 2 + a / 32 % 2 + a / 64 % 2 + a / 128 % 2 := by decide +kernel
theorem ea_f1 : ∀ as : List Nat, (∀ a ∈ as, a < 256) → ((ea_val as / 2) &&& ea_mm 85 as.length) ≤ ea_val as ∧ ea_val as - ((ea_val as / 2) &&& ea_mm 85 as.length) = ea_val (as.map ea_g1) := by
  intro as
  induction as with
  | nil => intro _; exact ⟨Nat.le_refl _, rfl⟩
  | cons a t ih =>
    intro h
    obtain ⟨i1, i2⟩ := ih (fun x hx => h x (List.mem_cons_of_mem _ hx))
    have ha : a < 256 := h a List.mem_cons_self
    obtain ⟨k1, k2⟩ := ea_k1 a ha (ea_val t % 2) (by omega)
    have e1 : ea_val (a :: t) / 2 = (a / 2 + 128 * (ea_val t % 2)) + 256 * (ea_val t / 2) := by simp only [ea_val]; omega
    have e2 : (ea_val (a :: t) / 2) &&& ea_mm 85 (a :: t).length = (a / 2 &&& 85) + 256 * ((ea_val t / 2) &&& ea_mm 85 t.length) := by
      rw [e1]
      show _ &&& (85 + 256 * ea_mm 85 t.length) = _
      rw [ea_and8 _ _ (by omega) (by decide), k1]
    rw [e2]
    simp only [List.map_cons, ea_val, ea_g1]
    omega
theorem ea_f2 : ∀ as : List Nat, (∀ a ∈ as, a < 256) → (ea_val as &&& ea_mm 51 as.length) + ((ea_val as / 4) &&& ea_mm 51 as.length) = ea_val (as.map ea_g2) := by
  intro as
  induction as with
  | nil => intro _; rfl
  | cons a t ih =>
    intro h
    have i1 := ih (fun x hx => h x (List.mem_cons_of_mem _ hx))
    have ha : a < 256 := h a List.mem_cons_self
    have k1 := ea_k2 a ha (ea_val t % 4) (by omega)
    have e1 : ea_val (a :: t) / 4 = (a / 4 + 64 * (ea_val t % 4)) + 256 * (ea_val t / 4) := by simp only [ea_val]; omega
    have e2 : (ea_val (a :: t) / 4) &&& ea_mm 51 (a :: t).length = (a / 4 &&& 51) + 256 * ((ea_val t / 4) &&& ea_mm 51 t.length) := by
      rw [e1]
      show _ &&& (51 + 256 * ea_mm 51 t.length) = _
      rw [ea_and8 _ _ (by omega) (by decide), k1]
    have e3 : ea_val (a :: t) &&& ea_mm 51 (a :: t).length = (a &&& 51) + 256 * (ea_val t &&& ea_mm 51 t.length) := by
      show (a + 256 * ea_val t) &&& (51 + 256 * ea_mm 51 t.length) = _
      rw [ea_and8 _ _ ha (by decide)]
    rw [e2, e3]
    simp only [List.map_cons, ea_val, ea_g2]
    omega
theorem ea_f3 : ∀ as : List Nat, (∀ a ∈ as, a < 69 ∧ a % 16 < 5) → (ea_val as + ea_val as / 16) &&& ea_mm 15 as.length = ea_val (as.map ea_g3) := by
  intro as
  induction as with
  | nil => intro _; rfl
  | cons a t ih =>
    intro h
    have i1 := ih (fun x hx => h x (List.mem_cons_of_mem _ hx))
    obtain ⟨ha, ha2⟩ := h a List.mem_cons_self
    have ht : ea_val t % 16 < 5 := by
      cases t with
      | nil => decide
      | cons b t2 =>
        have := (h b (List.mem_cons_of_mem _ List.mem_cons_self)).2
        simp only [ea_val]
        omega
    have k1 := ea_k3 a ha (ea_val t % 16) ht
    have e1 : ea_val (a :: t) + ea_val (a :: t) / 16 = (a + a / 16 + 16 * (ea_val t % 16)) + 256 * (ea_val t + ea_val t / 16) := by simp only [ea_val]; omega
    rw [e1]
    show _ &&& (15 + 256 * ea_mm 15 t.length) = _
    rw [ea_and8 _ _ (by omega) (by decide), k1, i1]
    rfl
/-- the sum of the bits below n -/
def ea_sb (x : Nat) : Nat → Nat
  | 0 => 0
  | k + 1 => ea_sb x k + x / 2 ^ k % 2
theorem ea_sb8 (x i : Nat) : ea_sb x (8 * i + 8) = ea_sb x (8 * i) + ea_g3 (ea_g2 (ea_g1 (x / 256 ^ i % 256))) := by
  have hp : ∀ j, x / 2 ^ (8 * i + j) = x / 256 ^ i / 2 ^ j := by
    intro j
    rw [Nat.pow_add, Nat.pow_mul, Nat.div_div_eq_div_mul]
  rw [ea_k5 _ (Nat.mod_lt _ (by decide))]
  simp only [ea_sb, show 8 * i + 8 = (8 * i + 7) + 1 from rfl]
  have h0 := hp 0
  simp only [Nat.add_zero, Nat.pow_zero, Nat.div_one] at h0
  rw [hp 7, hp 6, hp 5, hp 4, hp 3, hp 2, hp 1, h0]
  generalize x / 256 ^ i = y
  have e1 : y % 256 % 2 = y % 2 := by omega
  have e2 : y % 256 / 2 % 2 = y / 2 ^ 1 % 2 := by omega
  have e3 : y % 256 / 4 % 2 = y / 2 ^ 2 % 2 := by omega
  have e4 : y % 256 / 8 % 2 = y / 2 ^ 3 % 2 := by omega
  have e5 : y % 256 / 16 % 2 = y / 2 ^ 4 % 2 := by omega
  have e6 : y % 256 / 32 % 2 = y / 2 ^ 5 % 2 := by omega
  have e7 : y % 256 / 64 % 2 = y / 2 ^ 6 % 2 := by omega
  have e8 : y % 256 / 128 % 2 = y / 2 ^ 7 % 2 := by omega
  rw [e1, e2, e3, e4, e5, e6, e7, e8]
  omega
theorem ea_bytes {x : Nat} (h : x < 18446744073709551616) : x = ea_val [x / 256 ^ 0 % 256, x / 256 ^ 1 % 256, x / 256 ^ 2 % 256, x / 256 ^ 3 % 256, x / 256 ^ 4 % 256, x / 256 ^ 5 % 256, x / 256 ^ 6 % 256, x / 256 ^ 7 % 256] := by
  simp only [ea_val]
  omega
theorem ea_top {c0 c1 c2 c3 c4 c5 c6 c7 : Nat} (h0 : c0 ≤ 8) (h1 : c1 ≤ 8) (h2 : c2 ≤ 8) (h3 : c3 ≤ 8) (h4 : c4 ≤ 8) (h5 : c5 ≤ 8) (h6 : c6 ≤ 8) (h7 : c7 ≤ 8) : ea_val [c0, c1, c2, c3, c4, c5, c6, c7] * 72340172838076673 % 18446744073709551616 / 2 ^ 56 = c0 + c1 + c2 + c3 + c4 + c5 + c6 + c7 := by
  have e : ea_val [c0, c1, c2, c3, c4, c5, c6, c7] * 72340172838076673 = (1 * (c0) + 256 * (c0 + c1) + 65536 * (c0 + c1 + c2) + 16777216 * (c0 + c1 + c2 + c3) + 4294967296 * (c0 + c1 + c2 + c3 + c4) + 1099511627776 * (c0 + c1 + c2 + c3 + c4 + c5) + 281474976710656 * (c0 + c1 + c2 + c3 + c4 + c5 + c6)) + 72057594037927936 * (c0 + c1 + c2 + c3 + c4 + c5 + c6 + c7) + 18446744073709551616 * (1 * (c1 + c2 + c3 + c4 + c5 + c6 + c7) + 256 * (c2 + c3 + c4 + c5 + c6 + c7) + 65536 * (c3 + c4 + c5 + c6 + c7) + 16777216 * (c4 + c5 + c6 + c7) + 4294967296 * (c5 + c6 + c7) + 1099511627776 * (c6 + c7) + 281474976710656 * (c7)) := by
    simp only [ea_val]
    omega
  have hl : (1 * (c0) + 256 * (c0 + c1) + 65536 * (c0 + c1 + c2) + 16777216 * (c0 + c1 + c2 + c3) + 4294967296 * (c0 + c1 + c2 + c3 + c4) + 1099511627776 * (c0 + c1 + c2 + c3 + c4 + c5) + 281474976710656 * (c0 + c1 + c2 + c3 + c4 + c5 + c6)) < 72057594037927936 := by omega
  have hS : c0 + c1 + c2 + c3 + c4 + c5 + c6 + c7 ≤ 64 := by omega
  rw [e]
  generalize (1 * (c0) + 256 * (c0 + c1) + 65536 * (c0 + c1 + c2) + 16777216 * (c0 + c1 + c2 + c3) + 4294967296 * (c0 + c1 + c2 + c3 + c4) + 1099511627776 * (c0 + c1 + c2 + c3 + c4 + c5) + 281474976710656 * (c0 + c1 + c2 + c3 + c4 + c5 + c6)) = lo at hl
  generalize (c0 + c1 + c2 + c3 + c4 + c5 + c6 + c7) = S at hS
  generalize (1 * (c1 + c2 + c3 + c4 + c5 + c6 + c7) + 256 * (c2 + c3 + c4 + c5 + c6 + c7) + 65536 * (c3 + c4 + c5 + c6 + c7) + 16777216 * (c4 + c5 + c6 + c7) + 4294967296 * (c5 + c6 + c7) + 1099511627776 * (c6 + c7) + 281474976710656 * (c7)) = Q
  omega
theorem ea_ones_sb (c : Int64) : ea_ones c = nI (ea_sb (ea_N c) 64) := by
  have hx := ea_bytes (ea_N_lt c)
  generalize hxe : ea_N c = x at hx
  have hlt : x < 18446744073709551616 := by rw [← hxe]; exact ea_N_lt c
  have hs : ea_sb x 64 = ea_g3 (ea_g2 (ea_g1 (x / 256 ^ 0 % 256))) + ea_g3 (ea_g2 (ea_g1 (x / 256 ^ 1 % 256))) + ea_g3 (ea_g2 (ea_g1 (x / 256 ^ 2 % 256))) + ea_g3 (ea_g2 (ea_g1 (x / 256 ^ 3 % 256))) + ea_g3 (ea_g2 (ea_g1 (x / 256 ^ 4 % 256))) + ea_g3 (ea_g2 (ea_g1 (x / 256 ^ 5 % 256))) + ea_g3 (ea_g2 (ea_g1 (x / 256 ^ 6 % 256))) + ea_g3 (ea_g2 (ea_g1 (x / 256 ^ 7 % 256))) := by
    have t0 := ea_sb8 x 0
    have t1 := ea_sb8 x 1
    have t2 := ea_sb8 x 2
    have t3 := ea_sb8 x 3
    have t4 := ea_sb8 x 4
    have t5 := ea_sb8 x 5
    have t6 := ea_sb8 x 6
    have t7 := ea_sb8 x 7
    have tz : ea_sb x (8 * 0) = 0 := rfl
    simp only [Nat.reduceMul, Nat.reduceAdd] at t0 t1 t2 t3 t4 t5 t6 t7 tz
    omega
  generalize ha0 : x / 256 ^ 0 % 256 = a0 at hx hs
  generalize ha1 : x / 256 ^ 1 % 256 = a1 at hx hs
  generalize ha2 : x / 256 ^ 2 % 256 = a2 at hx hs
  generalize ha3 : x / 256 ^ 3 % 256 = a3 at hx hs
  generalize ha4 : x / 256 ^ 4 % 256 = a4 at hx hs
  generalize ha5 : x / 256 ^ 5 % 256 = a5 at hx hs
  generalize ha6 : x / 256 ^ 6 % 256 = a6 at hx hs
  generalize ha7 : x / 256 ^ 7 % 256 = a7 at hx hs
  have b0 : a0 < 256 := by omega
  have b1 : a1 < 256 := by omega
  have b2 : a2 < 256 := by omega
  have b3 : a3 < 256 := by omega
  have b4 : a4 < 256 := by omega
  have b5 : a5 < 256 := by omega
  have b6 : a6 < 256 := by omega
  have b7 : a7 < 256 := by omega
  have hall : ∀ a ∈ [a0, a1, a2, a3, a4, a5, a6, a7], a < 256 := by
    intro a ha
    simp only [List.mem_cons, List.not_mem_nil, or_false] at ha
    rcases ha with rfl | rfl | rfl | rfl | rfl | rfl | rfl | rfl <;> assumption
  have hg1 : ∀ a ∈ [a0, a1, a2, a3, a4, a5, a6, a7].map ea_g1, a < 256 := by
    intro a ha
    obtain ⟨b, hb, rfl⟩ := List.mem_map.mp ha
    exact (ea_k4 b (hall b hb)).1
  have hg2 : ∀ a ∈ ([a0, a1, a2, a3, a4, a5, a6, a7].map ea_g1).map ea_g2, a < 69 ∧ a % 16 < 5 := by
    intro a ha
    obtain ⟨d, hd, rfl⟩ := List.mem_map.mp ha
    obtain ⟨b, hb, rfl⟩ := List.mem_map.mp hd
    exact ⟨(ea_k4 b (hall b hb)).2.1, (ea_k4 b (hall b hb)).2.2.1⟩
  obtain ⟨f1a, f1b⟩ := ea_f1 _ hall
  have f2 := ea_f2 _ hg1
  have f3 := ea_f3 _ hg2
  -- the four steps
  have n1 : ea_N (ea_o1 c) = ea_val ([a0, a1, a2, a3, a4, a5, a6, a7].map ea_g1) := by
    have s1 : ea_N ((c.toUInt64 >>> ((1 : Int32).toInt64.toUInt64 &&& Int64.toUInt64 63)).toInt64 &&& 6148914691236517205) = (x / 2) &&& ea_mm 85 8 := by
      rw [ea_N_and, show ea_N (c.toUInt64 >>> ((1 : Int32).toInt64.toUInt64 &&& Int64.toUInt64 63)).toInt64 = ea_N c / 2 ^ 1 from ea_N_shr c (k := 1) (by decide), hxe]
      rfl
    unfold ea_o1
    rw [ea_N_sub (by rw [s1, hxe, hx]; exact f1a), s1, hxe, hx]
    exact f1b
  have hb1 : ea_val (([a0, a1, a2, a3, a4, a5, a6, a7].map ea_g1).map ea_g2) < 9000000000000000000 := by
    have z := fun b hb => (ea_k4 b hb).2.1
    have z0 := z a0 b0
    have z1 := z a1 b1
    have z2 := z a2 b2
    have z3 := z a3 b3
    have z4 := z a4 b4
    have z5 := z a5 b5
    have z6 := z a6 b6
    have z7 := z a7 b7
    simp only [List.map_cons, List.map_nil, ea_val]
    omega
  have n2 : ea_N (ea_o2 (ea_o1 c)) = ea_val (([a0, a1, a2, a3, a4, a5, a6, a7].map ea_g1).map ea_g2) := by
    generalize hy : ea_o1 c = y at n1 ⊢
    have s1 : ea_N ((y.toUInt64 >>> ((2 : Int32).toInt64.toUInt64 &&& Int64.toUInt64 63)).toInt64 &&& 3689348814741910323) = (ea_N y / 4) &&& ea_mm 51 8 := by
      rw [ea_N_and, show ea_N (y.toUInt64 >>> ((2 : Int32).toInt64.toUInt64 &&& Int64.toUInt64 63)).toInt64 = ea_N y / 2 ^ 2 from ea_N_shr y (k := 2) (by decide)]
      rfl
    have s2 : ea_N (y &&& 3689348814741910323) = ea_N y &&& ea_mm 51 8 := by
      rw [ea_N_and]
      rfl
    have s3 : ea_N (y &&& 3689348814741910323) + ea_N ((y.toUInt64 >>> ((2 : Int32).toInt64.toUInt64 &&& Int64.toUInt64 63)).toInt64 &&& 3689348814741910323) = ea_val (([a0, a1, a2, a3, a4, a5, a6, a7].map ea_g1).map ea_g2) := by
      rw [s1, s2, n1]
      exact f2
    unfold ea_o2
    rw [ea_N_add (by rw [s3]; omega), s3]
  have n3 : ea_N (ea_o3 (ea_o2 (ea_o1 c))) = ea_val ((([a0, a1, a2, a3, a4, a5, a6, a7].map ea_g1).map ea_g2).map ea_g3) := by
    generalize hy : ea_o2 (ea_o1 c) = y at n2 ⊢
    have s1 : ea_N (y.toUInt64 >>> ((4 : Int32).toInt64.toUInt64 &&& Int64.toUInt64 63)).toInt64 = ea_N y / 16 := ea_N_shr y (k := 4) (by decide)
    unfold ea_o3
    rw [ea_N_and, ea_N_add (by rw [s1, n2]; omega), s1, n2]
    exact f3
  have n4 : ea_o4 (ea_o3 (ea_o2 (ea_o1 c))) = nI (ea_sb x 64) := by
    generalize hy : ea_o3 (ea_o2 (ea_o1 c)) = y at n3 ⊢
    unfold ea_o4
    have s1 : ea_N ((y * 72340172838076673).toUInt64 >>> ((56 : Int32).toInt64.toUInt64 &&& Int64.toUInt64 63)).toInt64 = ea_sb x 64 := by
      rw [show ea_N ((y * 72340172838076673).toUInt64 >>> ((56 : Int32).toInt64.toUInt64 &&& Int64.toUInt64 63)).toInt64 = ea_N (y * 72340172838076673) / 2 ^ 56 from ea_N_shr _ (k := 56) (by decide), ea_N_mul, n3, hs]
      exact ea_top (ea_k4 a0 b0).2.2.2 (ea_k4 a1 b1).2.2.2 (ea_k4 a2 b2).2.2.2 (ea_k4 a3 b3).2.2.2 (ea_k4 a4 b4).2.2.2 (ea_k4 a5 b5).2.2.2 (ea_k4 a6 b6).2.2.2 (ea_k4 a7 b7).2.2.2
    rw [← lN_i]
    congr 1
    apply Int64.toBitVec_inj.mp
    apply BitVec.eq_of_toNat_eq
    have hsb : ea_sb x 64 < 18446744073709551616 := by rw [← s1]; exact ea_N_lt _
    exact s1.trans (show ea_sb x 64 = (BitVec.ofNat 64 (ea_sb x 64)).toNat by rw [BitVec.toNat_ofNat]; exact (Nat.mod_eq_of_lt hsb).symm)
  exact n4
theorem ea_sb_cw {w : Nat} {zs : List Nat} {c : Int64} (hb : ∀ k, k < 64 → c.toBitVec.getLsbD k = ea_bit w zs k) : ∀ k, k ≤ 64 → ea_sb (ea_N c) k = ea_cw w zs k := by
  intro k
  induction k with
  | zero => intro _; rfl
  | succ k ih =>
    intro hk
    simp only [ea_sb, ea_cw]
    rw [ih (by omega), ← hb k (by omega)]
    congr 1
    have e : c.toBitVec.getLsbD k = (ea_N c).testBit k := rfl
    rw [e, Nat.testBit_eq_decide_div_mod_eq]
    by_cases h : ea_N c / 2 ^ k % 2 = 1
    · simp [h]
    · have : ea_N c / 2 ^ k % 2 = 0 := by omega
      simp [this]
theorem ea_cw_hi {w : Nat} {zs : List Nat} : ∀ d, ea_cw w zs (w + d) = ea_cw w zs w := by
  intro d
  induction d with
  | zero => rfl
  | succ d ih =>
    have : ea_bit w zs (w + d) = false := decide_eq_false (fun h => absurd h.1 (by omega))
    show ea_cw w zs (w + d) + (if ea_bit w zs (w + d) then 1 else 0) = _
    rw [this, ih]
    rfl
theorem ea_ones_cw {w : Nat} {zs : List Nat} {c : Int64} (hw : 4 ≤ w ∧ w ≤ 64) (hb : ∀ k, k < 64 → c.toBitVec.getLsbD k = ea_bit w zs k) : ea_ones c = nI (ea_cw w zs w) := by
  rw [ea_ones_sb, ea_sb_cw hb 64 (Nat.le_refl _), show 64 = w + (64 - w) by omega, ea_cw_hi]
end
section
set_option maxHeartbeats 4000000 in
set_option maxRecDepth 100000 in
theorem c_X_window (l : Launch) (D : va_G) (q : Nat → Nat) (cI cJ : ClassId) (w : Nat) (mk : Int64) (u : ea_XS) : Met l y_X_window (.code y_X_window b_X_window 1 (some .int) :: ea_tb) (ea_rm 0) (va_Pc [.ref ((q 0))] (ea_B D (ea_ty cI cJ) (ea_wX q cI cJ (nI w) mk u))) (QcRead (nI w)) 0 0 (fun _ => False) := by
  refine ea_start (by decide) (Nat.le_of_ble_eq_true rfl) ?_
  intro p e s m below meth c ls hx hb hr hlocks hml hown hts hnm hB hl
  have hown : s.vm.findClass R_X = some m.cls := hown
  obtain ⟨hP, hK⟩ := hB
  have hl : lv_has ls 1 [(0, .ref ((q 0)))] := hl
  refine lv_aload_n hx hb d_X_window_0 rfl (lv_at hl 0 rfl) ?_
  refine va_get (ci := 0) (C := R_X) (T := F_X) (N := 10) hx hb hts i_X hown hK hP 0 rfl rfl 8 (by decide) (hts _ kf_X_window) (fun _ h => h) rfl d_X_window_1 ?_
  exact ea_retI hx hb hr hlocks (rfl) d_X_window_4
set_option maxHeartbeats 4000000 in
set_option maxRecDepth 100000 in
theorem c_X_top (l : Launch) (D : va_G) (q : Nat → Nat) (cI cJ : ClassId) (w : Nat) (mk : Int64) (hcx : ea_cx w mk) (σ : ea_S) (hok : ea_ok σ) (u : ea_XS) (hR : ea_RX w σ u) (x : Int32) : Met l y_X_top (.code y_X_top b_X_top 2 (some .int) :: ea_tb) (ea_rm 1) (va_Pc [.ref ((q 0)), .int x] (ea_B D (ea_ty cI cJ) (ea_wX q cI cJ (nI w) mk u))) (QcRead (sp_top σ x)) 0 0 (fun _ => False) := by
  by_cases hL : ea_isL x
  · obtain ⟨ln, hln, rfl, hnx⟩ := ea_isL_n hL
    rw [show sp_top σ (nI ln) = nI (ea_tp (σ.1 ln)) by unfold sp_top; rw [if_pos hL, hnx]]
    refine ea_start (by decide) (Nat.le_of_ble_eq_true rfl) ?_
    intro p e s m below meth c ls hx hb hr hlocks hml hown hts hnm hB hl
    have hown : s.vm.findClass R_X = some m.cls := hown
    obtain ⟨hP, hK⟩ := hB
    have hl : lv_has ls 2 [(0, .ref ((q 0))), (1, .int ((nI ln)))] := hl
    obtain ⟨⟨hth, htl, hbs, hps, hli⟩, hsf, hhd, hvd⟩ := hR ln hln
    have hw4 := hcx.1
    have hw64 := hcx.2.1
    have hzo := (hok ln hln).1
    have h15 := ea_tp15 hzo
    have hlen60 := hzo.2.2.1
    obtain ⟨-, ⟨hd1, hd60⟩, hs60⟩ := hok ln hln
    refine lv_iload_n hx hb d_X_top_0 rfl (lv_at hl 1 rfl) ?_
    refine ea_callS (As := [.int ((nI ln))]) (rest := []) (r := 1) ⟨hx, hb, hml, hown, hts⟩ (c_X_isLine1 l hL) ⟨kl_X_45, kt_X_isLine, ki_X, kc_X_isLine⟩ kd_X_isLine (by decide) ⟨Nat.le_of_ble_eq_true rfl, Nat.le_of_ble_eq_true rfl⟩ hl.1 rfl (Nat.le_of_ble_eq_true rfl) d_X_top_1 ⟨Nat.le_of_ble_eq_true rfl, Nat.le_of_ble_eq_true rfl⟩ ?_
    refine lv_if_eq (tgt := 15) hx hb d_X_top_4 (by decide) (fun c9 => absurd c9 (by decide)) (fun _ => ?_)
    refine lv_aload_n hx hb d_X_top_7 rfl (lv_at hl 0 rfl) ?_
    refine lv_iload_n hx hb d_X_top_8 rfl (lv_at hl 1 rfl) ?_
    refine ea_callR (As := [.int ((nI ln))]) (rest := []) (r := (nI (ea_tp (σ.1 ln)))) ⟨hx, hb, hml, hown, hts⟩ hK hP rfl rfl (c_X_topOf l D q cI cJ w mk hcx σ hok u hR ln hln) ⟨kl_X_56, kn_X_topOf, ks_X_topOf, ki_X, kc_X_topOf⟩ kd_X_topOf (by decide) ⟨Nat.le_of_ble_eq_true rfl, Nat.le_of_ble_eq_true rfl⟩ hl.1 rfl (Nat.le_of_ble_eq_true rfl) d_X_top_9 ⟨Nat.le_of_ble_eq_true rfl, Nat.le_of_ble_eq_true rfl⟩ ?_
    refine lv_goto (tgt := 16) hx hb d_X_top_12 (by decide) ?_
    exact ea_retI hx hb hr hlocks (rfl) d_X_top_16
  · rw [show sp_top σ x = -1 by unfold sp_top; rw [if_neg hL]]
    refine ea_start (by decide) (Nat.le_of_ble_eq_true rfl) ?_
    intro p e s m below meth c ls hx hb hr hlocks hml hown hts hnm hB hl
    have hown : s.vm.findClass R_X = some m.cls := hown
    obtain ⟨hP, hK⟩ := hB
    have hl : lv_has ls 2 [(0, .ref ((q 0))), (1, .int x)] := hl
    refine lv_iload_n hx hb d_X_top_0 rfl (lv_at hl 1 rfl) ?_
    refine ea_callS (As := [.int x]) (rest := []) (r := 0) ⟨hx, hb, hml, hown, hts⟩ (c_X_isLine0 l hL) ⟨kl_X_45, kt_X_isLine, ki_X, kc_X_isLine⟩ kd_X_isLine (by decide) ⟨Nat.le_of_ble_eq_true rfl, Nat.le_of_ble_eq_true rfl⟩ hl.1 rfl (Nat.le_of_ble_eq_true rfl) d_X_top_1 ⟨Nat.le_of_ble_eq_true rfl, Nat.le_of_ble_eq_true rfl⟩ ?_
    refine lv_if_eq (tgt := 15) hx hb d_X_top_4 (by decide) (fun _ => ?_) (fun c9 => absurd (rfl) c9)
    refine lv_iconst (v := (-1)) hx hb d_X_top_15 (by decide) ?_
    exact ea_retI hx hb hr hlocks (rfl) d_X_top_16
set_option maxHeartbeats 4000000 in
set_option maxRecDepth 100000 in
theorem c_X_accepted (l : Launch) (D : va_G) (q : Nat → Nat) (cI cJ : ClassId) (w : Nat) (mk : Int64) (hcx : ea_cx w mk) (σ : ea_S) (hok : ea_ok σ) (u : ea_XS) (hR : ea_RX w σ u) (x : Int32) : Met l y_X_accepted (.code y_X_accepted b_X_accepted 2 (some .int) :: ea_tb) (ea_rm 1) (va_Pc [.ref ((q 0)), .int x] (ea_B D (ea_ty cI cJ) (ea_wX q cI cJ (nI w) mk u))) (QcRead (sp_accepted σ x)) 0 0 (fun _ => False) := by
  by_cases hL : ea_isL x
  · obtain ⟨ln, hln, rfl, hnx⟩ := ea_isL_n hL
    rw [show sp_accepted σ (nI ln) = nI (σ.1 ln).length by unfold sp_accepted; rw [if_pos hL, hnx]]
    refine ea_start (by decide) (Nat.le_of_ble_eq_true rfl) ?_
    intro p e s m below meth c ls hx hb hr hlocks hml hown hts hnm hB hl
    have hown : s.vm.findClass R_X = some m.cls := hown
    obtain ⟨hP, hK⟩ := hB
    have hl : lv_has ls 2 [(0, .ref ((q 0))), (1, .int ((nI ln)))] := hl
    obtain ⟨⟨hth, htl, hbs, hps, hli⟩, hsf, hhd, hvd⟩ := hR ln hln
    have hw4 := hcx.1
    have hw64 := hcx.2.1
    have hzo := (hok ln hln).1
    have h15 := ea_tp15 hzo
    have hlen60 := hzo.2.2.1
    obtain ⟨-, ⟨hd1, hd60⟩, hs60⟩ := hok ln hln
    refine lv_iload_n hx hb d_X_accepted_0 rfl (lv_at hl 1 rfl) ?_
    refine ea_callS (As := [.int ((nI ln))]) (rest := []) (r := 1) ⟨hx, hb, hml, hown, hts⟩ (c_X_isLine1 l hL) ⟨kl_X_45, kt_X_isLine, ki_X, kc_X_isLine⟩ kd_X_isLine (by decide) ⟨Nat.le_of_ble_eq_true rfl, Nat.le_of_ble_eq_true rfl⟩ hl.1 rfl (Nat.le_of_ble_eq_true rfl) d_X_accepted_1 ⟨Nat.le_of_ble_eq_true rfl, Nat.le_of_ble_eq_true rfl⟩ ?_
    refine lv_if_eq (tgt := 16) hx hb d_X_accepted_4 (by decide) (fun c9 => absurd c9 (by decide)) (fun _ => ?_)
    refine lv_aload_n hx hb d_X_accepted_7 rfl (lv_at hl 0 rfl) ?_
    refine va_get (ci := 0) (C := R_X) (T := F_X) (N := 10) hx hb hts i_X hown hK hP 0 rfl rfl 3 (by decide) (hts _ kf_X_passed) (fun _ h => h) rfl d_X_accepted_8 ?_
    refine lv_iload_n hx hb d_X_accepted_11 rfl (lv_at hl 1 rfl) ?_
    refine ea_ild hx hb hK hP 4 0 rfl rfl (ln) (rfl) (hln) (by decide) (v := (nI (σ.1 ln).length)) (hps) d_X_accepted_12 ?_
    refine lv_goto (tgt := 17) hx hb d_X_accepted_13 (by decide) ?_
    exact ea_retI hx hb hr hlocks (rfl) d_X_accepted_17
  · rw [show sp_accepted σ x = -1 by unfold sp_accepted; rw [if_neg hL]]
    refine ea_start (by decide) (Nat.le_of_ble_eq_true rfl) ?_
    intro p e s m below meth c ls hx hb hr hlocks hml hown hts hnm hB hl
    have hown : s.vm.findClass R_X = some m.cls := hown
    obtain ⟨hP, hK⟩ := hB
    have hl : lv_has ls 2 [(0, .ref ((q 0))), (1, .int x)] := hl
    refine lv_iload_n hx hb d_X_accepted_0 rfl (lv_at hl 1 rfl) ?_
    refine ea_callS (As := [.int x]) (rest := []) (r := 0) ⟨hx, hb, hml, hown, hts⟩ (c_X_isLine0 l hL) ⟨kl_X_45, kt_X_isLine, ki_X, kc_X_isLine⟩ kd_X_isLine (by decide) ⟨Nat.le_of_ble_eq_true rfl, Nat.le_of_ble_eq_true rfl⟩ hl.1 rfl (Nat.le_of_ble_eq_true rfl) d_X_accepted_1 ⟨Nat.le_of_ble_eq_true rfl, Nat.le_of_ble_eq_true rfl⟩ ?_
    refine lv_if_eq (tgt := 16) hx hb d_X_accepted_4 (by decide) (fun _ => ?_) (fun c9 => absurd (rfl) c9)
    refine lv_iconst (v := (-1)) hx hb d_X_accepted_16 (by decide) ?_
    exact ea_retI hx hb hr hlocks (rfl) d_X_accepted_17
set_option maxHeartbeats 4000000 in
set_option maxRecDepth 100000 in
theorem c_X_dead (l : Launch) (D : va_G) (q : Nat → Nat) (cI cJ : ClassId) (w : Nat) (mk : Int64) (hcx : ea_cx w mk) (σ : ea_S) (hok : ea_ok σ) (u : ea_XS) (hR : ea_RX w σ u) (x : Int32) : Met l y_X_dead (.code y_X_dead b_X_dead 2 (some .int) :: ea_tb) (ea_rm 1) (va_Pc [.ref ((q 0)), .int x] (ea_B D (ea_ty cI cJ) (ea_wX q cI cJ (nI w) mk u))) (QcRead (sp_dead σ x)) 0 0 (fun _ => False) := by
  by_cases hL : ea_isL x
  · obtain ⟨ln, hln, rfl, hnx⟩ := ea_isL_n hL
    rw [show sp_dead σ (nI ln) = if σ.2.2.1 ln ≤ (σ.1 ln).length then 1 else 0 by unfold sp_dead; rw [if_pos hL, hnx]]
    refine ea_start (by decide) (Nat.le_of_ble_eq_true rfl) ?_
    intro p e s m below meth c ls hx hb hr hlocks hml hown hts hnm hB hl
    have hown : s.vm.findClass R_X = some m.cls := hown
    obtain ⟨hP, hK⟩ := hB
    have hl : lv_has ls 2 [(0, .ref ((q 0))), (1, .int ((nI ln)))] := hl
    obtain ⟨⟨hth, htl, hbs, hps, hli⟩, hsf, hhd, hvd⟩ := hR ln hln
    have hw4 := hcx.1
    have hw64 := hcx.2.1
    have hzo := (hok ln hln).1
    have h15 := ea_tp15 hzo
    have hlen60 := hzo.2.2.1
    obtain ⟨-, ⟨hd1, hd60⟩, hs60⟩ := hok ln hln
    refine lv_iload_n hx hb d_X_dead_0 rfl (lv_at hl 1 rfl) ?_
    refine ea_callS (As := [.int ((nI ln))]) (rest := []) (r := 1) ⟨hx, hb, hml, hown, hts⟩ (c_X_isLine1 l hL) ⟨kl_X_45, kt_X_isLine, ki_X, kc_X_isLine⟩ kd_X_isLine (by decide) ⟨Nat.le_of_ble_eq_true rfl, Nat.le_of_ble_eq_true rfl⟩ hl.1 rfl (Nat.le_of_ble_eq_true rfl) d_X_dead_1 ⟨Nat.le_of_ble_eq_true rfl, Nat.le_of_ble_eq_true rfl⟩ ?_
    refine lv_if_ne (tgt := 9) hx hb d_X_dead_4 (by decide) (fun _ => ?_) (fun c9 => absurd c9 (by decide))
    refine lv_aload_n hx hb d_X_dead_9 rfl (lv_at hl 0 rfl) ?_
    refine va_get (ci := 0) (C := R_X) (T := F_X) (N := 10) hx hb hts i_X hown hK hP 0 rfl rfl 3 (by decide) (hts _ kf_X_passed) (fun _ h => h) rfl d_X_dead_10 ?_
    refine lv_iload_n hx hb d_X_dead_13 rfl (lv_at hl 1 rfl) ?_
    refine ea_ild hx hb hK hP 4 0 rfl rfl (ln) (rfl) (hln) (by decide) (v := (nI (σ.1 ln).length)) (hps) d_X_dead_14 ?_
    refine lv_aload_n hx hb d_X_dead_15 rfl (lv_at hl 0 rfl) ?_
    refine va_get (ci := 0) (C := R_X) (T := F_X) (N := 10) hx hb hts i_X hown hK hP 0 rfl rfl 6 (by decide) (hts _ kf_X_hard) (fun _ h => h) rfl d_X_dead_16 ?_
    refine lv_iload_n hx hb d_X_dead_19 rfl (lv_at hl 1 rfl) ?_
    refine ea_ild hx hb hK hP 7 0 rfl rfl (ln) (rfl) (hln) (by decide) (v := (nI (σ.2.2.1 ln))) (hhd) d_X_dead_20 ?_
    refine lv_icmp_lt (tgt := 28) hx hb d_X_dead_21 (by decide) (fun c1 => ?_) (fun c1 => ?_)
    · have c1 := (nI_ltI (by omega) (by omega)).mp c1
      refine lv_iconst (v := 0) hx hb d_X_dead_28 (by decide) ?_
      exact ea_retI hx hb hr hlocks ((if_neg (by omega)).symm) d_X_dead_29
    · have c1 := mt (nI_ltI (by omega) (by omega)).mpr c1
      refine lv_iconst (v := 1) hx hb d_X_dead_24 (by decide) ?_
      refine lv_goto (tgt := 29) hx hb d_X_dead_25 (by decide) ?_
      exact ea_retI hx hb hr hlocks ((if_pos (by omega)).symm) d_X_dead_29
  · rw [show sp_dead σ x = -1 by unfold sp_dead; rw [if_neg hL]]
    refine ea_start (by decide) (Nat.le_of_ble_eq_true rfl) ?_
    intro p e s m below meth c ls hx hb hr hlocks hml hown hts hnm hB hl
    have hown : s.vm.findClass R_X = some m.cls := hown
    obtain ⟨hP, hK⟩ := hB
    have hl : lv_has ls 2 [(0, .ref ((q 0))), (1, .int x)] := hl
    refine lv_iload_n hx hb d_X_dead_0 rfl (lv_at hl 1 rfl) ?_
    refine ea_callS (As := [.int x]) (rest := []) (r := 0) ⟨hx, hb, hml, hown, hts⟩ (c_X_isLine0 l hL) ⟨kl_X_45, kt_X_isLine, ki_X, kc_X_isLine⟩ kd_X_isLine (by decide) ⟨Nat.le_of_ble_eq_true rfl, Nat.le_of_ble_eq_true rfl⟩ hl.1 rfl (Nat.le_of_ble_eq_true rfl) d_X_dead_1 ⟨Nat.le_of_ble_eq_true rfl, Nat.le_of_ble_eq_true rfl⟩ ?_
    refine lv_if_ne (tgt := 9) hx hb d_X_dead_4 (by decide) (fun c9 => absurd (rfl) c9) (fun _ => ?_)
    refine lv_iconst (v := (-1)) hx hb d_X_dead_7 (by decide) ?_
    exact ea_retI hx hb hr hlocks (rfl) d_X_dead_8
set_option maxHeartbeats 4000000 in
set_option maxRecDepth 100000 in
theorem c_X_aging (l : Launch) (D : va_G) (q : Nat → Nat) (cI cJ : ClassId) (w : Nat) (mk : Int64) (hcx : ea_cx w mk) (σ : ea_S) (hok : ea_ok σ) (u : ea_XS) (hR : ea_RX w σ u) (x : Int32) : Met l y_X_aging (.code y_X_aging b_X_aging 2 (some .int) :: ea_tb) (ea_rm 1) (va_Pc [.ref ((q 0)), .int x] (ea_B D (ea_ty cI cJ) (ea_wX q cI cJ (nI w) mk u))) (QcRead (sp_aging σ x)) 0 0 (fun _ => False) := by
  by_cases hL : ea_isL x
  · obtain ⟨ln, hln, rfl, hnx⟩ := ea_isL_n hL
    rw [show sp_aging σ (nI ln) = if σ.2.1 ln ≤ (σ.1 ln).length then 1 else 0 by unfold sp_aging; rw [if_pos hL, hnx]]
    refine ea_start (by decide) (Nat.le_of_ble_eq_true rfl) ?_
    intro p e s m below meth c ls hx hb hr hlocks hml hown hts hnm hB hl
    have hown : s.vm.findClass R_X = some m.cls := hown
    obtain ⟨hP, hK⟩ := hB
    have hl : lv_has ls 2 [(0, .ref ((q 0))), (1, .int ((nI ln)))] := hl
    obtain ⟨⟨hth, htl, hbs, hps, hli⟩, hsf, hhd, hvd⟩ := hR ln hln
    have hw4 := hcx.1
    have hw64 := hcx.2.1
    have hzo := (hok ln hln).1
    have h15 := ea_tp15 hzo
    have hlen60 := hzo.2.2.1
    obtain ⟨-, ⟨hd1, hd60⟩, hs60⟩ := hok ln hln
    refine lv_iload_n hx hb d_X_aging_0 rfl (lv_at hl 1 rfl) ?_
    refine ea_callS (As := [.int ((nI ln))]) (rest := []) (r := 1) ⟨hx, hb, hml, hown, hts⟩ (c_X_isLine1 l hL) ⟨kl_X_45, kt_X_isLine, ki_X, kc_X_isLine⟩ kd_X_isLine (by decide) ⟨Nat.le_of_ble_eq_true rfl, Nat.le_of_ble_eq_true rfl⟩ hl.1 rfl (Nat.le_of_ble_eq_true rfl) d_X_aging_1 ⟨Nat.le_of_ble_eq_true rfl, Nat.le_of_ble_eq_true rfl⟩ ?_
    refine lv_if_ne (tgt := 9) hx hb d_X_aging_4 (by decide) (fun _ => ?_) (fun c9 => absurd c9 (by decide))
    refine lv_aload_n hx hb d_X_aging_9 rfl (lv_at hl 0 rfl) ?_
    refine va_get (ci := 0) (C := R_X) (T := F_X) (N := 10) hx hb hts i_X hown hK hP 0 rfl rfl 3 (by decide) (hts _ kf_X_passed) (fun _ h => h) rfl d_X_aging_10 ?_
    refine lv_iload_n hx hb d_X_aging_13 rfl (lv_at hl 1 rfl) ?_
    refine ea_ild hx hb hK hP 4 0 rfl rfl (ln) (rfl) (hln) (by decide) (v := (nI (σ.1 ln).length)) (hps) d_X_aging_14 ?_
    refine lv_aload_n hx hb d_X_aging_15 rfl (lv_at hl 0 rfl) ?_
    refine va_get (ci := 0) (C := R_X) (T := F_X) (N := 10) hx hb hts i_X hown hK hP 0 rfl rfl 5 (by decide) (hts _ kf_X_soft) (fun _ h => h) rfl d_X_aging_16 ?_
    refine lv_iload_n hx hb d_X_aging_19 rfl (lv_at hl 1 rfl) ?_
    refine ea_ild hx hb hK hP 6 0 rfl rfl (ln) (rfl) (hln) (by decide) (v := (nI (σ.2.1 ln))) (hsf) d_X_aging_20 ?_
    refine lv_icmp_lt (tgt := 28) hx hb d_X_aging_21 (by decide) (fun c1 => ?_) (fun c1 => ?_)
    · have c1 := (nI_ltI (by omega) (by omega)).mp c1
      refine lv_iconst (v := 0) hx hb d_X_aging_28 (by decide) ?_
      exact ea_retI hx hb hr hlocks ((if_neg (by omega)).symm) d_X_aging_29
    · have c1 := mt (nI_ltI (by omega) (by omega)).mpr c1
      refine lv_iconst (v := 1) hx hb d_X_aging_24 (by decide) ?_
      refine lv_goto (tgt := 29) hx hb d_X_aging_25 (by decide) ?_
      exact ea_retI hx hb hr hlocks ((if_pos (by omega)).symm) d_X_aging_29
  · rw [show sp_aging σ x = -1 by unfold sp_aging; rw [if_neg hL]]
    refine ea_start (by decide) (Nat.le_of_ble_eq_true rfl) ?_
    intro p e s m below meth c ls hx hb hr hlocks hml hown hts hnm hB hl
    have hown : s.vm.findClass R_X = some m.cls := hown
    obtain ⟨hP, hK⟩ := hB
    have hl : lv_has ls 2 [(0, .ref ((q 0))), (1, .int x)] := hl
    refine lv_iload_n hx hb d_X_aging_0 rfl (lv_at hl 1 rfl) ?_
    refine ea_callS (As := [.int x]) (rest := []) (r := 0) ⟨hx, hb, hml, hown, hts⟩ (c_X_isLine0 l hL) ⟨kl_X_45, kt_X_isLine, ki_X, kc_X_isLine⟩ kd_X_isLine (by decide) ⟨Nat.le_of_ble_eq_true rfl, Nat.le_of_ble_eq_true rfl⟩ hl.1 rfl (Nat.le_of_ble_eq_true rfl) d_X_aging_1 ⟨Nat.le_of_ble_eq_true rfl, Nat.le_of_ble_eq_true rfl⟩ ?_
    refine lv_if_ne (tgt := 9) hx hb d_X_aging_4 (by decide) (fun c9 => absurd (rfl) c9) (fun _ => ?_)
    refine lv_iconst (v := (-1)) hx hb d_X_aging_7 (by decide) ?_
    exact ea_retI hx hb hr hlocks (rfl) d_X_aging_8
set_option maxHeartbeats 4000000 in
set_option maxRecDepth 100000 in
theorem c_X_count (l : Launch) (D : va_G) (q : Nat → Nat) (cI cJ : ClassId) (w : Nat) (mk : Int64) (hcx : ea_cx w mk) (σ : ea_S) (hok : ea_ok σ) (u : ea_XS) (hR : ea_RX w σ u) (x v : Int32) : Met l y_X_count (.code y_X_count b_X_count 3 (some .int) :: ea_tb) (ea_rm 1) (va_Pc [.ref ((q 0)), .int x, .int v] (ea_B D (ea_ty cI cJ) (ea_wX q cI cJ (nI w) mk u))) (QcRead (sp_count σ x v)) 0 0 (fun _ => False) := by
  by_cases hL : ea_isL x
  · obtain ⟨ln, hln, rfl, hnx⟩ := ea_isL_n hL
    by_cases hv1 : 1 ≤ v
    · by_cases hv2 : v ≤ 5
      · obtain ⟨k, hk5, rfl⟩ := nI_of2 (x := v) (M := 5) (n := 5) (by decide) (fun h => absurd (Int32.lt_of_le_of_lt hv1 h) (by decide)) hv2
        have hk1 : 1 ≤ k := (nI_leI (by omega) (by omega)).mp hv1
        rw [show sp_count σ (nI ln) (nI k) = σ.2.2.2 ln k by unfold sp_count; rw [if_pos hL, if_pos ⟨hv1, hv2⟩, hnx, show ea_n (nI k) = k from nI_clamp (by omega)]]
        refine ea_start (by decide) (Nat.le_of_ble_eq_true rfl) ?_
        intro p e s m below meth c ls hx hb hr hlocks hml hown hts hnm hB hl
        have hown : s.vm.findClass R_X = some m.cls := hown
        obtain ⟨hP, hK⟩ := hB
        have hl : lv_has ls 3 [(0, .ref ((q 0))), (1, .int ((nI ln))), (2, .int ((nI k)))] := hl
        obtain ⟨⟨hth, htl, hbs, hps, hli⟩, hsf, hhd, hvd⟩ := hR ln hln
        have hw4 := hcx.1
        have hw64 := hcx.2.1
        have hzo := (hok ln hln).1
        have h15 := ea_tp15 hzo
        have hlen60 := hzo.2.2.1
        obtain ⟨-, ⟨hd1, hd60⟩, hs60⟩ := hok ln hln
        refine lv_iload_n hx hb d_X_count_0 rfl (lv_at hl 1 rfl) ?_
        refine ea_callS (As := [.int ((nI ln))]) (rest := []) (r := 1) ⟨hx, hb, hml, hown, hts⟩ (c_X_isLine1 l hL) ⟨kl_X_45, kt_X_isLine, ki_X, kc_X_isLine⟩ kd_X_isLine (by decide) ⟨Nat.le_of_ble_eq_true rfl, Nat.le_of_ble_eq_true rfl⟩ hl.1 rfl (Nat.le_of_ble_eq_true rfl) d_X_count_1 ⟨Nat.le_of_ble_eq_true rfl, Nat.le_of_ble_eq_true rfl⟩ ?_
        refine lv_if_ne (tgt := 9) hx hb d_X_count_4 (by decide) (fun _ => ?_) (fun c9 => absurd c9 (by decide))
        refine lv_iload_n hx hb d_X_count_9 rfl (lv_at hl 2 rfl) ?_
        refine lv_iconst (v := 1) hx hb d_X_count_10 (by decide) ?_
        refine lv_icmp_lt (tgt := 33) hx hb d_X_count_11 (by decide) (fun c9 => absurd c9 (Int32.not_lt.mpr hv1)) (fun _ => ?_)
        refine lv_iload_n hx hb d_X_count_14 rfl (lv_at hl 2 rfl) ?_
        refine lv_iconst (v := 5) hx hb d_X_count_15 (by decide) ?_
        refine lv_icmp_gt (tgt := 33) hx hb d_X_count_16 (by decide) (fun c9 => absurd c9 (Int32.not_lt.mpr hv2)) (fun _ => ?_)
        refine lv_aload_n hx hb d_X_count_19 rfl (lv_at hl 0 rfl) ?_
        refine va_get (ci := 0) (C := R_X) (T := F_X) (N := 10) hx hb hts i_X hown hK hP 0 rfl rfl 7 (by decide) (hts _ kf_X_verdicts) (fun _ h => h) rfl d_X_count_20 ?_
        refine lv_bipush (v := (nI 6)) hx hb d_X_count_23 (by decide) ?_
        refine lv_iload_n hx hb d_X_count_25 rfl (lv_at hl 1 rfl) ?_
        refine lv_imul hx hb d_X_count_26 ?_
        refine ea_ti (y := (nI (6 * ln))) (pk_mul _ _) ?_
        refine lv_iload_n hx hb d_X_count_27 rfl (lv_at hl 2 rfl) ?_
        refine lv_iadd hx hb d_X_count_28 ?_
        refine ea_ti (y := (nI (6 * ln + k))) (nI_add _ _) ?_
        refine ea_ild hx hb hK hP 8 0 rfl rfl (6 * ln + k) (rfl) (by omega) (by decide) (v := (σ.2.2.2 ln k)) (hvd k hk1 hk5) d_X_count_29 ?_
        refine lv_goto (tgt := 35) hx hb d_X_count_30 (by decide) ?_
        exact ea_retI hx hb hr hlocks (rfl) d_X_count_35
      · rw [show sp_count σ (nI ln) v = -2 by unfold sp_count; rw [if_pos hL, if_neg (fun h => hv2 h.2)]]
        refine ea_start (by decide) (Nat.le_of_ble_eq_true rfl) ?_
        intro p e s m below meth c ls hx hb hr hlocks hml hown hts hnm hB hl
        have hown : s.vm.findClass R_X = some m.cls := hown
        obtain ⟨hP, hK⟩ := hB
        have hl : lv_has ls 3 [(0, .ref ((q 0))), (1, .int ((nI ln))), (2, .int v)] := hl
        obtain ⟨⟨hth, htl, hbs, hps, hli⟩, hsf, hhd, hvd⟩ := hR ln hln
        have hw4 := hcx.1
        have hw64 := hcx.2.1
        have hzo := (hok ln hln).1
        have h15 := ea_tp15 hzo
        have hlen60 := hzo.2.2.1
        obtain ⟨-, ⟨hd1, hd60⟩, hs60⟩ := hok ln hln
        refine lv_iload_n hx hb d_X_count_0 rfl (lv_at hl 1 rfl) ?_
        refine ea_callS (As := [.int ((nI ln))]) (rest := []) (r := 1) ⟨hx, hb, hml, hown, hts⟩ (c_X_isLine1 l hL) ⟨kl_X_45, kt_X_isLine, ki_X, kc_X_isLine⟩ kd_X_isLine (by decide) ⟨Nat.le_of_ble_eq_true rfl, Nat.le_of_ble_eq_true rfl⟩ hl.1 rfl (Nat.le_of_ble_eq_true rfl) d_X_count_1 ⟨Nat.le_of_ble_eq_true rfl, Nat.le_of_ble_eq_true rfl⟩ ?_
        refine lv_if_ne (tgt := 9) hx hb d_X_count_4 (by decide) (fun _ => ?_) (fun c9 => absurd c9 (by decide))
        refine lv_iload_n hx hb d_X_count_9 rfl (lv_at hl 2 rfl) ?_
        refine lv_iconst (v := 1) hx hb d_X_count_10 (by decide) ?_
        refine lv_icmp_lt (tgt := 33) hx hb d_X_count_11 (by decide) (fun c9 => absurd c9 (Int32.not_lt.mpr hv1)) (fun _ => ?_)
        refine lv_iload_n hx hb d_X_count_14 rfl (lv_at hl 2 rfl) ?_
        refine lv_iconst (v := 5) hx hb d_X_count_15 (by decide) ?_
        refine lv_icmp_gt (tgt := 33) hx hb d_X_count_16 (by decide) (fun _ => ?_) (fun c9 => absurd (Int32.not_le.mp hv2) c9)
        refine lv_bipush (v := (-2)) hx hb d_X_count_33 (by decide) ?_
        exact ea_retI hx hb hr hlocks (rfl) d_X_count_35
    · rw [show sp_count σ (nI ln) v = -2 by unfold sp_count; rw [if_pos hL, if_neg (fun h => hv1 h.1)]]
      refine ea_start (by decide) (Nat.le_of_ble_eq_true rfl) ?_
      intro p e s m below meth c ls hx hb hr hlocks hml hown hts hnm hB hl
      have hown : s.vm.findClass R_X = some m.cls := hown
      obtain ⟨hP, hK⟩ := hB
      have hl : lv_has ls 3 [(0, .ref ((q 0))), (1, .int ((nI ln))), (2, .int v)] := hl
      obtain ⟨⟨hth, htl, hbs, hps, hli⟩, hsf, hhd, hvd⟩ := hR ln hln
      have hw4 := hcx.1
      have hw64 := hcx.2.1
      have hzo := (hok ln hln).1
      have h15 := ea_tp15 hzo
      have hlen60 := hzo.2.2.1
      obtain ⟨-, ⟨hd1, hd60⟩, hs60⟩ := hok ln hln
      refine lv_iload_n hx hb d_X_count_0 rfl (lv_at hl 1 rfl) ?_
      refine ea_callS (As := [.int ((nI ln))]) (rest := []) (r := 1) ⟨hx, hb, hml, hown, hts⟩ (c_X_isLine1 l hL) ⟨kl_X_45, kt_X_isLine, ki_X, kc_X_isLine⟩ kd_X_isLine (by decide) ⟨Nat.le_of_ble_eq_true rfl, Nat.le_of_ble_eq_true rfl⟩ hl.1 rfl (Nat.le_of_ble_eq_true rfl) d_X_count_1 ⟨Nat.le_of_ble_eq_true rfl, Nat.le_of_ble_eq_true rfl⟩ ?_
      refine lv_if_ne (tgt := 9) hx hb d_X_count_4 (by decide) (fun _ => ?_) (fun c9 => absurd c9 (by decide))
      refine lv_iload_n hx hb d_X_count_9 rfl (lv_at hl 2 rfl) ?_
      refine lv_iconst (v := 1) hx hb d_X_count_10 (by decide) ?_
      refine lv_icmp_lt (tgt := 33) hx hb d_X_count_11 (by decide) (fun _ => ?_) (fun c9 => absurd (Int32.not_le.mp hv1) c9)
      refine lv_bipush (v := (-2)) hx hb d_X_count_33 (by decide) ?_
      exact ea_retI hx hb hr hlocks (rfl) d_X_count_35
  · rw [show sp_count σ x v = -1 by unfold sp_count; rw [if_neg hL]]
    refine ea_start (by decide) (Nat.le_of_ble_eq_true rfl) ?_
    intro p e s m below meth c ls hx hb hr hlocks hml hown hts hnm hB hl
    have hown : s.vm.findClass R_X = some m.cls := hown
    obtain ⟨hP, hK⟩ := hB
    have hl : lv_has ls 3 [(0, .ref ((q 0))), (1, .int x), (2, .int v)] := hl
    refine lv_iload_n hx hb d_X_count_0 rfl (lv_at hl 1 rfl) ?_
    refine ea_callS (As := [.int x]) (rest := []) (r := 0) ⟨hx, hb, hml, hown, hts⟩ (c_X_isLine0 l hL) ⟨kl_X_45, kt_X_isLine, ki_X, kc_X_isLine⟩ kd_X_isLine (by decide) ⟨Nat.le_of_ble_eq_true rfl, Nat.le_of_ble_eq_true rfl⟩ hl.1 rfl (Nat.le_of_ble_eq_true rfl) d_X_count_1 ⟨Nat.le_of_ble_eq_true rfl, Nat.le_of_ble_eq_true rfl⟩ ?_
    refine lv_if_ne (tgt := 9) hx hb d_X_count_4 (by decide) (fun c9 => absurd (rfl) c9) (fun _ => ?_)
    refine lv_iconst (v := (-1)) hx hb d_X_count_7 (by decide) ?_
    exact ea_retI hx hb hr hlocks (rfl) d_X_count_8
set_option maxHeartbeats 4000000 in
set_option maxRecDepth 100000 in
theorem c_X_numberFor (l : Launch) (D : va_G) (q : Nat → Nat) (cI cJ : ClassId) (w : Nat) (mk : Int64) (hcx : ea_cx w mk) (σ : ea_S) (hok : ea_ok σ) (u : ea_XS) (hR : ea_RX w σ u) (x y : Int32) : Met l y_X_numberFor (.code y_X_numberFor b_X_numberFor 3 (some .int) :: ea_tb) (ea_rm 1) (va_Pc [.ref ((q 0)), .int x, .int y] (ea_B D (ea_ty cI cJ) (ea_wX q cI cJ (nI w) mk u))) (QcRead (sp_numberFor w σ x y)) 0 0 (fun _ => False) := by
  by_cases hL : ea_isL x
  · obtain ⟨ln, hln, rfl, hnx⟩ := ea_isL_n hL
    by_cases hW : ea_isW y
    · obtain ⟨lo, hlo, rfl, hny⟩ := ea_isW_n hW
      rw [show sp_numberFor w σ (nI ln) (nI lo) = ea_I (ea_inf w (ea_tp (σ.1 ln)) lo) by unfold sp_numberFor; rw [if_pos ⟨hL, hW⟩, hnx, hny]]
      refine ea_start (by decide) (Nat.le_of_ble_eq_true rfl) ?_
      intro p e s m below meth c ls hx hb hr hlocks hml hown hts hnm hB hl
      have hown : s.vm.findClass R_X = some m.cls := hown
      obtain ⟨hP, hK⟩ := hB
      have hl : lv_has ls 3 [(0, .ref ((q 0))), (1, .int ((nI ln))), (2, .int ((nI lo)))] := hl
      refine lv_iload_n hx hb d_X_numberFor_0 rfl (lv_at hl 1 rfl) ?_
      refine ea_callS (As := [.int ((nI ln))]) (rest := []) (r := 1) ⟨hx, hb, hml, hown, hts⟩ (c_X_isLine1 l hL) ⟨kl_X_45, kt_X_isLine, ki_X, kc_X_isLine⟩ kd_X_isLine (by decide) ⟨Nat.le_of_ble_eq_true rfl, Nat.le_of_ble_eq_true rfl⟩ hl.1 rfl (Nat.le_of_ble_eq_true rfl) d_X_numberFor_1 ⟨Nat.le_of_ble_eq_true rfl, Nat.le_of_ble_eq_true rfl⟩ ?_
      refine lv_if_eq (tgt := 23) hx hb d_X_numberFor_4 (by decide) (fun c9 => absurd c9 (by decide)) (fun _ => ?_)
      refine lv_iload_n hx hb d_X_numberFor_7 rfl (lv_at hl 2 rfl) ?_
      refine ea_callS (As := [.int ((nI lo))]) (rest := []) (r := 1) ⟨hx, hb, hml, hown, hts⟩ (c_X_isLow1 l hW) ⟨kl_X_49, kt_X_isLow, ki_X, kc_X_isLow⟩ kd_X_isLow (by decide) ⟨Nat.le_of_ble_eq_true rfl, Nat.le_of_ble_eq_true rfl⟩ hl.1 rfl (Nat.le_of_ble_eq_true rfl) d_X_numberFor_8 ⟨Nat.le_of_ble_eq_true rfl, Nat.le_of_ble_eq_true rfl⟩ ?_
      refine lv_if_eq (tgt := 23) hx hb d_X_numberFor_11 (by decide) (fun c9 => absurd c9 (by decide)) (fun _ => ?_)
      refine lv_aload_n hx hb d_X_numberFor_14 rfl (lv_at hl 0 rfl) ?_
      refine lv_iload_n hx hb d_X_numberFor_15 rfl (lv_at hl 1 rfl) ?_
      refine lv_iload_n hx hb d_X_numberFor_16 rfl (lv_at hl 2 rfl) ?_
      refine ea_callR (As := [.int ((nI ln)), .int ((nI lo))]) (rest := []) (r := (ea_I (ea_inf w (ea_tp (σ.1 ln)) lo))) ⟨hx, hb, hml, hown, hts⟩ hK hP rfl rfl (c_X_infer l D q cI cJ w mk hcx σ hok u hR ln hln lo hlo) ⟨kl_X_60, kn_X_infer, ks_X_infer, ki_X, kc_X_infer⟩ kd_X_infer (by decide) ⟨Nat.le_of_ble_eq_true rfl, Nat.le_of_ble_eq_true rfl⟩ hl.1 rfl (Nat.le_of_ble_eq_true rfl) d_X_numberFor_17 ⟨Nat.le_of_ble_eq_true rfl, Nat.le_of_ble_eq_true rfl⟩ ?_
      refine lv_goto (tgt := 26) hx hb d_X_numberFor_20 (by decide) ?_
      exact ea_retI hx hb hr hlocks (rfl) d_X_numberFor_26
    · rw [show sp_numberFor w σ (nI ln) y = -1000 by unfold sp_numberFor; rw [if_neg (fun h => hW h.2)]]
      refine ea_start (by decide) (Nat.le_of_ble_eq_true rfl) ?_
      intro p e s m below meth c ls hx hb hr hlocks hml hown hts hnm hB hl
      have hown : s.vm.findClass R_X = some m.cls := hown
      obtain ⟨hP, hK⟩ := hB
      have hl : lv_has ls 3 [(0, .ref ((q 0))), (1, .int ((nI ln))), (2, .int y)] := hl
      refine lv_iload_n hx hb d_X_numberFor_0 rfl (lv_at hl 1 rfl) ?_
      refine ea_callS (As := [.int ((nI ln))]) (rest := []) (r := 1) ⟨hx, hb, hml, hown, hts⟩ (c_X_isLine1 l hL) ⟨kl_X_45, kt_X_isLine, ki_X, kc_X_isLine⟩ kd_X_isLine (by decide) ⟨Nat.le_of_ble_eq_true rfl, Nat.le_of_ble_eq_true rfl⟩ hl.1 rfl (Nat.le_of_ble_eq_true rfl) d_X_numberFor_1 ⟨Nat.le_of_ble_eq_true rfl, Nat.le_of_ble_eq_true rfl⟩ ?_
      refine lv_if_eq (tgt := 23) hx hb d_X_numberFor_4 (by decide) (fun c9 => absurd c9 (by decide)) (fun _ => ?_)
      refine lv_iload_n hx hb d_X_numberFor_7 rfl (lv_at hl 2 rfl) ?_
      refine ea_callS (As := [.int y]) (rest := []) (r := 0) ⟨hx, hb, hml, hown, hts⟩ (c_X_isLow0 l hW) ⟨kl_X_49, kt_X_isLow, ki_X, kc_X_isLow⟩ kd_X_isLow (by decide) ⟨Nat.le_of_ble_eq_true rfl, Nat.le_of_ble_eq_true rfl⟩ hl.1 rfl (Nat.le_of_ble_eq_true rfl) d_X_numberFor_8 ⟨Nat.le_of_ble_eq_true rfl, Nat.le_of_ble_eq_true rfl⟩ ?_
      refine lv_if_eq (tgt := 23) hx hb d_X_numberFor_11 (by decide) (fun _ => ?_) (fun c9 => absurd (rfl) c9)
      refine lv_sipush (v := (-1000)) hx hb d_X_numberFor_23 (by decide) ?_
      exact ea_retI hx hb hr hlocks (rfl) d_X_numberFor_26
  · rw [show sp_numberFor w σ x y = -1000 by unfold sp_numberFor; rw [if_neg (fun h => hL h.1)]]
    refine ea_start (by decide) (Nat.le_of_ble_eq_true rfl) ?_
    intro p e s m below meth c ls hx hb hr hlocks hml hown hts hnm hB hl
    have hown : s.vm.findClass R_X = some m.cls := hown
    obtain ⟨hP, hK⟩ := hB
    have hl : lv_has ls 3 [(0, .ref ((q 0))), (1, .int x), (2, .int y)] := hl
    refine lv_iload_n hx hb d_X_numberFor_0 rfl (lv_at hl 1 rfl) ?_
    refine ea_callS (As := [.int x]) (rest := []) (r := 0) ⟨hx, hb, hml, hown, hts⟩ (c_X_isLine0 l hL) ⟨kl_X_45, kt_X_isLine, ki_X, kc_X_isLine⟩ kd_X_isLine (by decide) ⟨Nat.le_of_ble_eq_true rfl, Nat.le_of_ble_eq_true rfl⟩ hl.1 rfl (Nat.le_of_ble_eq_true rfl) d_X_numberFor_1 ⟨Nat.le_of_ble_eq_true rfl, Nat.le_of_ble_eq_true rfl⟩ ?_
    refine lv_if_eq (tgt := 23) hx hb d_X_numberFor_4 (by decide) (fun _ => ?_) (fun c9 => absurd (rfl) c9)
    refine lv_sipush (v := (-1000)) hx hb d_X_numberFor_23 (by decide) ?_
    exact ea_retI hx hb hr hlocks (rfl) d_X_numberFor_26
set_option maxHeartbeats 4000000 in
set_option maxRecDepth 100000 in
theorem c_X_has (l : Launch) (D : va_G) (q : Nat → Nat) (cI cJ : ClassId) (w : Nat) (mk : Int64) (hcx : ea_cx w mk) (σ : ea_S) (hok : ea_ok σ) (u : ea_XS) (hR : ea_RX w σ u) (x n : Int32) : Met l y_X_has (.code y_X_has b_X_has 5 (some .int) :: ea_tb) (ea_rm 1) (va_Pc [.ref ((q 0)), .int x, .int n] (ea_B D (ea_ty cI cJ) (ea_wX q cI cJ (nI w) mk u))) (QcRead (sp_has σ x n)) 0 0 (fun _ => False) := by
  by_cases hL : ea_isL x
  · obtain ⟨ln, hln, rfl, hnx⟩ := ea_isL_n hL
    have hno : ∀ m : Int32, (m < 1 ∨ nI (ea_tp (σ.1 ln)) < m) → m ∉ (σ.1 ln).map nI := by
      intro m hm h
      obtain ⟨k, hk, rfl⟩ := List.mem_map.mp h
      have h1 := (hok ln hln).1.2.1 k hk
      have h2 := ea_tp_le hk
      have h3 := ea_tp15 (hok ln hln).1
      rcases hm with hm | hm
      · exact absurd ((nI_ltI (a := k) (b := 1) (by omega) (by omega)).mp hm) (by omega)
      · exact absurd ((nI_ltI (by omega) (by omega)).mp hm) (by omega)
    by_cases h1 : n < 1
    · rw [show sp_has σ (nI ln) n = 0 by unfold sp_has; rw [if_pos hL, hnx, if_neg (hno n (Or.inl h1))]]
      refine ea_start (by decide) (Nat.le_of_ble_eq_true rfl) ?_
      intro p e s m below meth c ls hx hb hr hlocks hml hown hts hnm hB hl
      have hown : s.vm.findClass R_X = some m.cls := hown
      obtain ⟨hP, hK⟩ := hB
      have hl : lv_has ls 5 [(0, .ref ((q 0))), (1, .int ((nI ln))), (2, .int n)] := hl
      obtain ⟨⟨hth, htl, hbs, hps, hli⟩, hsf, hhd, hvd⟩ := hR ln hln
      have hw4 := hcx.1
      have hw64 := hcx.2.1
      have hzo := (hok ln hln).1
      have h15 := ea_tp15 hzo
      have hlen60 := hzo.2.2.1
      obtain ⟨-, ⟨hd1, hd60⟩, hs60⟩ := hok ln hln
      refine lv_iload_n hx hb d_X_has_0 rfl (lv_at hl 1 rfl) ?_
      refine ea_callS (As := [.int ((nI ln))]) (rest := []) (r := 1) ⟨hx, hb, hml, hown, hts⟩ (c_X_isLine1 l hL) ⟨kl_X_45, kt_X_isLine, ki_X, kc_X_isLine⟩ kd_X_isLine (by decide) ⟨Nat.le_of_ble_eq_true rfl, Nat.le_of_ble_eq_true rfl⟩ hl.1 rfl (Nat.le_of_ble_eq_true rfl) d_X_has_1 ⟨Nat.le_of_ble_eq_true rfl, Nat.le_of_ble_eq_true rfl⟩ ?_
      refine lv_if_ne (tgt := 9) hx hb d_X_has_4 (by decide) (fun _ => ?_) (fun c9 => absurd c9 (by decide))
      refine lv_aload_n hx hb d_X_has_9 rfl (lv_at hl 0 rfl) ?_
      refine lv_iload_n hx hb d_X_has_10 rfl (lv_at hl 1 rfl) ?_
      refine ea_callR (As := [.int ((nI ln))]) (rest := []) (r := (nI (ea_tp (σ.1 ln)))) ⟨hx, hb, hml, hown, hts⟩ hK hP rfl rfl (c_X_topOf l D q cI cJ w mk hcx σ hok u hR ln hln) ⟨kl_X_56, kn_X_topOf, ks_X_topOf, ki_X, kc_X_topOf⟩ kd_X_topOf (by decide) ⟨Nat.le_of_ble_eq_true rfl, Nat.le_of_ble_eq_true rfl⟩ hl.1 rfl (Nat.le_of_ble_eq_true rfl) d_X_has_11 ⟨Nat.le_of_ble_eq_true rfl, Nat.le_of_ble_eq_true rfl⟩ ?_
      refine lv_istore_n (lv' := [(3, .int ((nI (ea_tp (σ.1 ln))))), (0, .ref ((q 0))), (1, .int ((nI ln))), (2, .int n)]) hx hb d_X_has_14 rfl hl (by decide) rfl (fun ls hl => ?_)
      refine lv_iload_n hx hb d_X_has_15 rfl (lv_at hl 3 rfl) ?_
      refine lv_iconst (v := 1) hx hb d_X_has_16 (by decide) ?_
      refine lv_icmp_lt (tgt := 25) hx hb d_X_has_17 (by decide) (fun _ => ?_) (fun c9 => absurd (h1) c9)
      refine lv_iconst (v := 0) hx hb d_X_has_25 (by decide) ?_
      exact ea_retI hx hb hr hlocks (rfl) d_X_has_26
    · by_cases h2 : n ≤ nI (ea_tp (σ.1 ln))
      · obtain ⟨N, hN31, rfl⟩ := nI_of (x := n) (fun h => h1 (Int32.lt_trans h (by decide)))
        have hN1 : 1 ≤ N := by
          have := mt (nI_ltI (a := N) (b := 1) hN31 (by omega)).mpr h1
          omega
        have h3 := ea_tp15 (hok ln hln).1
        have hNt : N ≤ (ea_tp (σ.1 ln)) := (nI_leI hN31 (by omega)).mp h2
        have hmm : nI N ∈ (σ.1 ln).map nI ↔ N ∈ σ.1 ln := ea_mem_map hN31 (fun y hy => by have := ea_tp_le hy; omega)
        rw [show sp_has σ (nI ln) (nI N) = if N ∈ σ.1 ln then 1 else 0 by unfold sp_has; rw [if_pos hL, hnx]; exact ea_ifc hmm]
        refine ea_start (by decide) (Nat.le_of_ble_eq_true rfl) ?_
        intro p e s m below meth c ls hx hb hr hlocks hml hown hts hnm hB hl
        have hown : s.vm.findClass R_X = some m.cls := hown
        obtain ⟨hP, hK⟩ := hB
        have hl : lv_has ls 5 [(0, .ref ((q 0))), (1, .int ((nI ln))), (2, .int ((nI N)))] := hl
        obtain ⟨⟨hth, htl, hbs, hps, hli⟩, hsf, hhd, hvd⟩ := hR ln hln
        have hw4 := hcx.1
        have hw64 := hcx.2.1
        have hzo := (hok ln hln).1
        have h15 := ea_tp15 hzo
        have hlen60 := hzo.2.2.1
        obtain ⟨-, ⟨hd1, hd60⟩, hs60⟩ := hok ln hln
        refine lv_iload_n hx hb d_X_has_0 rfl (lv_at hl 1 rfl) ?_
        refine ea_callS (As := [.int ((nI ln))]) (rest := []) (r := 1) ⟨hx, hb, hml, hown, hts⟩ (c_X_isLine1 l hL) ⟨kl_X_45, kt_X_isLine, ki_X, kc_X_isLine⟩ kd_X_isLine (by decide) ⟨Nat.le_of_ble_eq_true rfl, Nat.le_of_ble_eq_true rfl⟩ hl.1 rfl (Nat.le_of_ble_eq_true rfl) d_X_has_1 ⟨Nat.le_of_ble_eq_true rfl, Nat.le_of_ble_eq_true rfl⟩ ?_
        refine lv_if_ne (tgt := 9) hx hb d_X_has_4 (by decide) (fun _ => ?_) (fun c9 => absurd c9 (by decide))
        refine lv_aload_n hx hb d_X_has_9 rfl (lv_at hl 0 rfl) ?_
        refine lv_iload_n hx hb d_X_has_10 rfl (lv_at hl 1 rfl) ?_
        refine ea_callR (As := [.int ((nI ln))]) (rest := []) (r := (nI (ea_tp (σ.1 ln)))) ⟨hx, hb, hml, hown, hts⟩ hK hP rfl rfl (c_X_topOf l D q cI cJ w mk hcx σ hok u hR ln hln) ⟨kl_X_56, kn_X_topOf, ks_X_topOf, ki_X, kc_X_topOf⟩ kd_X_topOf (by decide) ⟨Nat.le_of_ble_eq_true rfl, Nat.le_of_ble_eq_true rfl⟩ hl.1 rfl (Nat.le_of_ble_eq_true rfl) d_X_has_11 ⟨Nat.le_of_ble_eq_true rfl, Nat.le_of_ble_eq_true rfl⟩ ?_
        refine lv_istore_n (lv' := [(3, .int ((nI (ea_tp (σ.1 ln))))), (0, .ref ((q 0))), (1, .int ((nI ln))), (2, .int ((nI N)))]) hx hb d_X_has_14 rfl hl (by decide) rfl (fun ls hl => ?_)
        refine lv_iload_n hx hb d_X_has_15 rfl (lv_at hl 3 rfl) ?_
        refine lv_iconst (v := 1) hx hb d_X_has_16 (by decide) ?_
        refine lv_icmp_lt (tgt := 25) hx hb d_X_has_17 (by decide) (fun c9 => absurd c9 (h1)) (fun _ => ?_)
        refine lv_iload_n hx hb d_X_has_20 rfl (lv_at hl 3 rfl) ?_
        refine lv_iload_n hx hb d_X_has_21 rfl (lv_at hl 0 rfl) ?_
        refine lv_icmp_le (tgt := 27) hx hb d_X_has_22 (by decide) (fun _ => ?_) (fun c9 => absurd (h2) c9)
        refine lv_iload_n hx hb d_X_has_27 rfl (lv_at hl 0 rfl) ?_
        refine lv_iload_n hx hb d_X_has_28 rfl (lv_at hl 3 rfl) ?_
        refine lv_isub hx hb d_X_has_29 ?_
        refine ea_ti (y := (nI ((ea_tp (σ.1 ln)) - N))) (pk_sub hNt) ?_
        refine lv_aload_n hx hb d_X_has_30 rfl (lv_at hl 1 rfl) ?_
        refine va_get (ci := 0) (C := R_X) (T := F_X) (N := 10) hx hb hts i_X hown hK hP 0 rfl rfl 8 (by decide) (hts _ kf_X_window) (fun _ h => h) rfl d_X_has_31 ?_
        refine lv_icmp_ge (tgt := 51) hx hb d_X_has_34 (by decide) (fun c1 => ?_) (fun c1 => ?_)
        · have hph := ea_pl_has (n := N) hzo.1
          have hple := ea_pl_le N (σ.1 ln)
          refine lv_aload_n hx hb d_X_has_51 rfl (lv_at hl 1 rfl) ?_
          refine lv_iload_n hx hb d_X_has_52 rfl (lv_at hl 2 rfl) ?_
          refine lv_iload_n hx hb d_X_has_53 rfl (lv_at hl 3 rfl) ?_
          refine ea_callR (As := [.int ((nI ln)), .int ((nI N))]) (rest := []) (r := (nI (ea_pl N (σ.1 ln)))) ⟨hx, hb, hml, hown, hts⟩ hK hP rfl rfl (c_X_place l D q cI cJ w mk u ln hln (σ.1 ln) hzo hps hli N hN31) ⟨kl_X_64, kn_X_place, ks_X_place, ki_X, kc_X_place⟩ kd_X_place (by decide) ⟨Nat.le_of_ble_eq_true rfl, Nat.le_of_ble_eq_true rfl⟩ hl.1 rfl (Nat.le_of_ble_eq_true rfl) d_X_has_54 ⟨Nat.le_of_ble_eq_true rfl, Nat.le_of_ble_eq_true rfl⟩ ?_
          refine lv_istore (lv' := [(4, .int ((nI (ea_pl N (σ.1 ln))))), (3, .int ((nI (ea_tp (σ.1 ln))))), (0, .ref ((q 0))), (1, .int ((nI ln))), (2, .int ((nI N)))]) hx hb d_X_has_57 hl (by decide) rfl (fun ls hl => ?_)
          refine lv_iload hx hb d_X_has_59 (lv_at hl 0 rfl) ?_
          refine lv_aload_n hx hb d_X_has_61 rfl (lv_at hl 2 rfl) ?_
          refine va_get (ci := 0) (C := R_X) (T := F_X) (N := 10) hx hb hts i_X hown hK hP 0 rfl rfl 3 (by decide) (hts _ kf_X_passed) (fun _ h => h) rfl d_X_has_62 ?_
          refine lv_iload_n hx hb d_X_has_65 rfl (lv_at hl 3 rfl) ?_
          refine ea_ild hx hb hK hP 4 0 rfl rfl (ln) (rfl) (hln) (by decide) (v := (nI (σ.1 ln).length)) (hps) d_X_has_66 ?_
          refine lv_icmp_ge (tgt := 90) hx hb d_X_has_67 (by decide) (fun c2 => ?_) (fun c2 => ?_)
          · have c2 := (nI_leI (by omega) (by omega)).mp c2
            refine lv_iconst (v := 0) hx hb d_X_has_90 (by decide) ?_
            exact ea_retI hx hb hr hlocks ((if_neg (fun h => absurd (hph.mpr h).1 (by omega))).symm) d_X_has_91
          · have c2 := mt (nI_leI (by omega) (by omega)).mpr c2
            have hg31 : (σ.1 ln).getD (ea_pl N (σ.1 ln)) 0 < 2 ^ 31 := by
              have hlt : ea_pl N (σ.1 ln) < (σ.1 ln).length := by omega
              have := ea_tp_le (show (σ.1 ln).getD (ea_pl N (σ.1 ln)) 0 ∈ σ.1 ln by rw [ea_gd hlt]; exact List.getElem_mem hlt)
              omega
            refine lv_aload_n hx hb d_X_has_70 rfl (lv_at hl 2 rfl) ?_
            refine va_get (ci := 0) (C := R_X) (T := F_X) (N := 10) hx hb hts i_X hown hK hP 0 rfl rfl 4 (by decide) (hts _ kf_X_list) (fun _ h => h) rfl d_X_has_71 ?_
            refine lv_bipush (v := (nI 60)) hx hb d_X_has_74 (by decide) ?_
            refine lv_iload_n hx hb d_X_has_76 rfl (lv_at hl 3 rfl) ?_
            refine lv_imul hx hb d_X_has_77 ?_
            refine ea_ti (y := (nI (60 * ln))) (pk_mul _ _) ?_
            refine lv_iload hx hb d_X_has_78 (lv_at hl 0 rfl) ?_
            refine lv_iadd hx hb d_X_has_80 ?_
            refine ea_ti (y := (nI (60 * ln + ea_pl N (σ.1 ln)))) (nI_add _ _) ?_
            refine ea_ild hx hb hK hP 5 0 rfl rfl (60 * ln + ea_pl N (σ.1 ln)) (rfl) (by omega) (by decide) (v := (nI ((σ.1 ln).getD (ea_pl N (σ.1 ln)) 0))) (hli _ (by omega)) d_X_has_81 ?_
            refine lv_iload_n hx hb d_X_has_82 rfl (lv_at hl 4 rfl) ?_
            refine lv_icmp_ne (tgt := 90) hx hb d_X_has_83 (by decide) (fun c3 => ?_) (fun c3 => ?_)
            · refine lv_iconst (v := 0) hx hb d_X_has_90 (by decide) ?_
              exact ea_retI hx hb hr hlocks ((if_neg (fun h => c3 (congrArg nI (hph.mpr h).2))).symm) d_X_has_91
            · refine lv_iconst (v := 1) hx hb d_X_has_86 (by decide) ?_
              refine lv_goto (tgt := 91) hx hb d_X_has_87 (by decide) ?_
              exact ea_retI hx hb hr hlocks ((if_pos (hph.mp ⟨by omega, (nI_eq hg31 hN31).mp c3⟩)).symm) d_X_has_91
        · have c1 := mt (nI_leI (by omega) (by omega)).mpr c1
          have hbit : (u.2.2.1 ln).toBitVec.getLsbD ((ea_tp (σ.1 ln)) - N) = true ↔ N ∈ σ.1 ln := by
            rw [hbs _ (by omega), ea_bit_iff, show (ea_tp (σ.1 ln)) - ((ea_tp (σ.1 ln)) - N) = N by omega]
            exact ⟨fun h => h.2, fun h => ⟨by omega, h⟩⟩
          refine lv_aload_n hx hb d_X_has_37 rfl (lv_at hl 1 rfl) ?_
          refine va_get (ci := 0) (C := R_X) (T := F_X) (N := 10) hx hb hts i_X hown hK hP 0 rfl rfl 2 (by decide) (hts _ kf_X_bits) (fun _ h => h) rfl d_X_has_38 ?_
          refine lv_iload_n hx hb d_X_has_41 rfl (lv_at hl 2 rfl) ?_
          refine ea_lld hx hb hK hP 3 1 rfl rfl (ln) (rfl) (hln) (by decide) (v := (u.2.2.1 ln)) (rfl) d_X_has_42 ?_
          refine lv_iload_n hx hb d_X_has_43 rfl (lv_at hl 0 rfl) ?_
          refine lv_iload_n hx hb d_X_has_44 rfl (lv_at hl 3 rfl) ?_
          refine lv_isub hx hb d_X_has_45 ?_
          refine ea_ti (y := (nI ((ea_tp (σ.1 ln)) - N))) (pk_sub hNt) ?_
          refine lv_lushr (v := ((((u.2.2.1 ln) : Int64).toUInt64 >>> (((nI ((ea_tp (σ.1 ln)) - N)) : Int32).toInt64.toUInt64 &&& Int64.toUInt64 63)).toInt64)) hx hb d_X_has_46 (rfl) ?_
          refine lv_lconst (v := 1) hx hb d_X_has_47 (by decide) ?_
          refine lv_land hx hb d_X_has_48 ?_
          refine ea_tl (y := (if (u.2.2.1 ln).toBitVec.getLsbD ((ea_tp (σ.1 ln)) - N) then 1 else 0)) (ea_bitv _ (by omega)) ?_
          refine lv_l2i (v := (if (u.2.2.1 ln).toBitVec.getLsbD ((ea_tp (σ.1 ln)) - N) then 1 else 0)) hx hb d_X_has_49 (ea_l2b) ?_
          exact ea_retI hx hb hr hlocks (ea_ifc hbit) d_X_has_50
      · rw [show sp_has σ (nI ln) n = 0 by unfold sp_has; rw [if_pos hL, hnx, if_neg (hno n (Or.inr (Int32.not_le.mp h2)))]]
        refine ea_start (by decide) (Nat.le_of_ble_eq_true rfl) ?_
        intro p e s m below meth c ls hx hb hr hlocks hml hown hts hnm hB hl
        have hown : s.vm.findClass R_X = some m.cls := hown
        obtain ⟨hP, hK⟩ := hB
        have hl : lv_has ls 5 [(0, .ref ((q 0))), (1, .int ((nI ln))), (2, .int n)] := hl
        obtain ⟨⟨hth, htl, hbs, hps, hli⟩, hsf, hhd, hvd⟩ := hR ln hln
        have hw4 := hcx.1
        have hw64 := hcx.2.1
        have hzo := (hok ln hln).1
        have h15 := ea_tp15 hzo
        have hlen60 := hzo.2.2.1
        obtain ⟨-, ⟨hd1, hd60⟩, hs60⟩ := hok ln hln
        refine lv_iload_n hx hb d_X_has_0 rfl (lv_at hl 1 rfl) ?_
        refine ea_callS (As := [.int ((nI ln))]) (rest := []) (r := 1) ⟨hx, hb, hml, hown, hts⟩ (c_X_isLine1 l hL) ⟨kl_X_45, kt_X_isLine, ki_X, kc_X_isLine⟩ kd_X_isLine (by decide) ⟨Nat.le_of_ble_eq_true rfl, Nat.le_of_ble_eq_true rfl⟩ hl.1 rfl (Nat.le_of_ble_eq_true rfl) d_X_has_1 ⟨Nat.le_of_ble_eq_true rfl, Nat.le_of_ble_eq_true rfl⟩ ?_
        refine lv_if_ne (tgt := 9) hx hb d_X_has_4 (by decide) (fun _ => ?_) (fun c9 => absurd c9 (by decide))
        refine lv_aload_n hx hb d_X_has_9 rfl (lv_at hl 0 rfl) ?_
        refine lv_iload_n hx hb d_X_has_10 rfl (lv_at hl 1 rfl) ?_
        refine ea_callR (As := [.int ((nI ln))]) (rest := []) (r := (nI (ea_tp (σ.1 ln)))) ⟨hx, hb, hml, hown, hts⟩ hK hP rfl rfl (c_X_topOf l D q cI cJ w mk hcx σ hok u hR ln hln) ⟨kl_X_56, kn_X_topOf, ks_X_topOf, ki_X, kc_X_topOf⟩ kd_X_topOf (by decide) ⟨Nat.le_of_ble_eq_true rfl, Nat.le_of_ble_eq_true rfl⟩ hl.1 rfl (Nat.le_of_ble_eq_true rfl) d_X_has_11 ⟨Nat.le_of_ble_eq_true rfl, Nat.le_of_ble_eq_true rfl⟩ ?_
        refine lv_istore_n (lv' := [(3, .int ((nI (ea_tp (σ.1 ln))))), (0, .ref ((q 0))), (1, .int ((nI ln))), (2, .int n)]) hx hb d_X_has_14 rfl hl (by decide) rfl (fun ls hl => ?_)
        refine lv_iload_n hx hb d_X_has_15 rfl (lv_at hl 3 rfl) ?_
        refine lv_iconst (v := 1) hx hb d_X_has_16 (by decide) ?_
        refine lv_icmp_lt (tgt := 25) hx hb d_X_has_17 (by decide) (fun c9 => absurd c9 (h1)) (fun _ => ?_)
        refine lv_iload_n hx hb d_X_has_20 rfl (lv_at hl 3 rfl) ?_
        refine lv_iload_n hx hb d_X_has_21 rfl (lv_at hl 0 rfl) ?_
        refine lv_icmp_le (tgt := 27) hx hb d_X_has_22 (by decide) (fun c9 => absurd c9 (h2)) (fun _ => ?_)
        refine lv_iconst (v := 0) hx hb d_X_has_25 (by decide) ?_
        exact ea_retI hx hb hr hlocks (rfl) d_X_has_26
  · rw [show sp_has σ x n = -1 by unfold sp_has; rw [if_neg hL]]
    refine ea_start (by decide) (Nat.le_of_ble_eq_true rfl) ?_
    intro p e s m below meth c ls hx hb hr hlocks hml hown hts hnm hB hl
    have hown : s.vm.findClass R_X = some m.cls := hown
    obtain ⟨hP, hK⟩ := hB
    have hl : lv_has ls 5 [(0, .ref ((q 0))), (1, .int x), (2, .int n)] := hl
    refine lv_iload_n hx hb d_X_has_0 rfl (lv_at hl 1 rfl) ?_
    refine ea_callS (As := [.int x]) (rest := []) (r := 0) ⟨hx, hb, hml, hown, hts⟩ (c_X_isLine0 l hL) ⟨kl_X_45, kt_X_isLine, ki_X, kc_X_isLine⟩ kd_X_isLine (by decide) ⟨Nat.le_of_ble_eq_true rfl, Nat.le_of_ble_eq_true rfl⟩ hl.1 rfl (Nat.le_of_ble_eq_true rfl) d_X_has_1 ⟨Nat.le_of_ble_eq_true rfl, Nat.le_of_ble_eq_true rfl⟩ ?_
    refine lv_if_ne (tgt := 9) hx hb d_X_has_4 (by decide) (fun c9 => absurd (rfl) c9) (fun _ => ?_)
    refine lv_iconst (v := (-1)) hx hb d_X_has_7 (by decide) ?_
    exact ea_retI hx hb hr hlocks (rfl) d_X_has_8
set_option maxHeartbeats 4000000 in
set_option maxRecDepth 100000 in
theorem c_X_inWindow (l : Launch) (D : va_G) (q : Nat → Nat) (cI cJ : ClassId) (w : Nat) (mk : Int64) (hcx : ea_cx w mk) (σ : ea_S) (hok : ea_ok σ) (u : ea_XS) (hR : ea_RX w σ u) (x : Int32) : Met l y_X_inWindow (.code y_X_inWindow b_X_inWindow 2 (some .int) :: ea_tb) (ea_rm 1) (va_Pc [.ref ((q 0)), .int x] (ea_B D (ea_ty cI cJ) (ea_wX q cI cJ (nI w) mk u))) (QcRead (sp_inWindow w σ x)) 0 0 (fun _ => False) := by
  by_cases hL : ea_isL x
  · obtain ⟨ln, hln, rfl, hnx⟩ := ea_isL_n hL
    rw [show sp_inWindow w σ (nI ln) = nI (ea_cw w (σ.1 ln) w) by unfold sp_inWindow; rw [if_pos hL, hnx]]
    refine ea_start (by decide) (Nat.le_of_ble_eq_true rfl) ?_
    intro p e s m below meth c ls hx hb hr hlocks hml hown hts hnm hB hl
    have hown : s.vm.findClass R_X = some m.cls := hown
    obtain ⟨hP, hK⟩ := hB
    have hl : lv_has ls 2 [(0, .ref ((q 0))), (1, .int ((nI ln)))] := hl
    obtain ⟨⟨hth, htl, hbs, hps, hli⟩, hsf, hhd, hvd⟩ := hR ln hln
    have hw4 := hcx.1
    have hw64 := hcx.2.1
    have hzo := (hok ln hln).1
    have h15 := ea_tp15 hzo
    have hlen60 := hzo.2.2.1
    obtain ⟨-, ⟨hd1, hd60⟩, hs60⟩ := hok ln hln
    refine lv_iload_n hx hb d_X_inWindow_0 rfl (lv_at hl 1 rfl) ?_
    refine ea_callS (As := [.int ((nI ln))]) (rest := []) (r := 1) ⟨hx, hb, hml, hown, hts⟩ (c_X_isLine1 l hL) ⟨kl_X_45, kt_X_isLine, ki_X, kc_X_isLine⟩ kd_X_isLine (by decide) ⟨Nat.le_of_ble_eq_true rfl, Nat.le_of_ble_eq_true rfl⟩ hl.1 rfl (Nat.le_of_ble_eq_true rfl) d_X_inWindow_1 ⟨Nat.le_of_ble_eq_true rfl, Nat.le_of_ble_eq_true rfl⟩ ?_
    refine lv_if_eq (tgt := 19) hx hb d_X_inWindow_4 (by decide) (fun c9 => absurd c9 (by decide)) (fun _ => ?_)
    refine lv_aload_n hx hb d_X_inWindow_7 rfl (lv_at hl 0 rfl) ?_
    refine va_get (ci := 0) (C := R_X) (T := F_X) (N := 10) hx hb hts i_X hown hK hP 0 rfl rfl 2 (by decide) (hts _ kf_X_bits) (fun _ h => h) rfl d_X_inWindow_8 ?_
    refine lv_iload_n hx hb d_X_inWindow_11 rfl (lv_at hl 1 rfl) ?_
    refine ea_lld hx hb hK hP 3 1 rfl rfl (ln) (rfl) (hln) (by decide) (v := (u.2.2.1 ln)) (rfl) d_X_inWindow_12 ?_
    refine ea_callS (As := [.long ((u.2.2.1 ln))]) (rest := []) (r := (ea_ones (u.2.2.1 ln))) ⟨hx, hb, hml, hown, hts⟩ (c_X_ones l (u.2.2.1 ln)) ⟨kl_X_67, kt_X_ones, ki_X, kc_X_ones⟩ kd_X_ones (by decide) ⟨Nat.le_of_ble_eq_true rfl, Nat.le_of_ble_eq_true rfl⟩ hl.1 rfl (Nat.le_of_ble_eq_true rfl) d_X_inWindow_13 ⟨Nat.le_of_ble_eq_true rfl, Nat.le_of_ble_eq_true rfl⟩ ?_
    refine lv_goto (tgt := 20) hx hb d_X_inWindow_16 (by decide) ?_
    exact ea_retI hx hb hr hlocks (ea_ones_cw ⟨hw4, hw64⟩ hbs) d_X_inWindow_20
  · rw [show sp_inWindow w σ x = -1 by unfold sp_inWindow; rw [if_neg hL]]
    refine ea_start (by decide) (Nat.le_of_ble_eq_true rfl) ?_
    intro p e s m below meth c ls hx hb hr hlocks hml hown hts hnm hB hl
    have hown : s.vm.findClass R_X = some m.cls := hown
    obtain ⟨hP, hK⟩ := hB
    have hl : lv_has ls 2 [(0, .ref ((q 0))), (1, .int x)] := hl
    refine lv_iload_n hx hb d_X_inWindow_0 rfl (lv_at hl 1 rfl) ?_
    refine ea_callS (As := [.int x]) (rest := []) (r := 0) ⟨hx, hb, hml, hown, hts⟩ (c_X_isLine0 l hL) ⟨kl_X_45, kt_X_isLine, ki_X, kc_X_isLine⟩ kd_X_isLine (by decide) ⟨Nat.le_of_ble_eq_true rfl, Nat.le_of_ble_eq_true rfl⟩ hl.1 rfl (Nat.le_of_ble_eq_true rfl) d_X_inWindow_1 ⟨Nat.le_of_ble_eq_true rfl, Nat.le_of_ble_eq_true rfl⟩ ?_
    refine lv_if_eq (tgt := 19) hx hb d_X_inWindow_4 (by decide) (fun _ => ?_) (fun c9 => absurd (rfl) c9)
    refine lv_iconst (v := (-1)) hx hb d_X_inWindow_19 (by decide) ?_
    exact ea_retI hx hb hr hlocks (rfl) d_X_inWindow_20
set_option maxHeartbeats 4000000 in
set_option maxRecDepth 100000 in
theorem c_X_lost (l : Launch) (D : va_G) (q : Nat → Nat) (cI cJ : ClassId) (w : Nat) (mk : Int64) (hcx : ea_cx w mk) (σ : ea_S) (hok : ea_ok σ) (u : ea_XS) (hR : ea_RX w σ u) (x : Int32) : Met l y_X_lost (.code y_X_lost b_X_lost 3 (some .int) :: ea_tb) (ea_rm 1) (va_Pc [.ref ((q 0)), .int x] (ea_B D (ea_ty cI cJ) (ea_wX q cI cJ (nI w) mk u))) (QcRead (sp_lost w σ x)) 0 0 (fun _ => False) := by
  by_cases hL : ea_isL x
  · obtain ⟨ln, hln, rfl, hnx⟩ := ea_isL_n hL
    rw [show sp_lost w σ (nI ln) = ea_lost w (σ.1 ln) by unfold sp_lost; rw [if_pos hL, hnx]]
    refine ea_start (by decide) (Nat.le_of_ble_eq_true rfl) ?_
    intro p e s m below meth c ls hx hb hr hlocks hml hown hts hnm hB hl
    have hown : s.vm.findClass R_X = some m.cls := hown
    obtain ⟨hP, hK⟩ := hB
    have hl : lv_has ls 3 [(0, .ref ((q 0))), (1, .int ((nI ln)))] := hl
    obtain ⟨⟨hth, htl, hbs, hps, hli⟩, hsf, hhd, hvd⟩ := hR ln hln
    have hw4 := hcx.1
    have hw64 := hcx.2.1
    have hzo := (hok ln hln).1
    have h15 := ea_tp15 hzo
    have hlen60 := hzo.2.2.1
    obtain ⟨-, ⟨hd1, hd60⟩, hs60⟩ := hok ln hln
    refine lv_iload_n hx hb d_X_lost_0 rfl (lv_at hl 1 rfl) ?_
    refine ea_callS (As := [.int ((nI ln))]) (rest := []) (r := 1) ⟨hx, hb, hml, hown, hts⟩ (c_X_isLine1 l hL) ⟨kl_X_45, kt_X_isLine, ki_X, kc_X_isLine⟩ kd_X_isLine (by decide) ⟨Nat.le_of_ble_eq_true rfl, Nat.le_of_ble_eq_true rfl⟩ hl.1 rfl (Nat.le_of_ble_eq_true rfl) d_X_lost_1 ⟨Nat.le_of_ble_eq_true rfl, Nat.le_of_ble_eq_true rfl⟩ ?_
    refine lv_if_ne (tgt := 9) hx hb d_X_lost_4 (by decide) (fun _ => ?_) (fun c9 => absurd c9 (by decide))
    refine lv_aload_n hx hb d_X_lost_9 rfl (lv_at hl 0 rfl) ?_
    refine lv_iload_n hx hb d_X_lost_10 rfl (lv_at hl 1 rfl) ?_
    refine ea_callR (As := [.int ((nI ln))]) (rest := []) (r := (nI (ea_tp (σ.1 ln)))) ⟨hx, hb, hml, hown, hts⟩ hK hP rfl rfl (c_X_topOf l D q cI cJ w mk hcx σ hok u hR ln hln) ⟨kl_X_56, kn_X_topOf, ks_X_topOf, ki_X, kc_X_topOf⟩ kd_X_topOf (by decide) ⟨Nat.le_of_ble_eq_true rfl, Nat.le_of_ble_eq_true rfl⟩ hl.1 rfl (Nat.le_of_ble_eq_true rfl) d_X_lost_11 ⟨Nat.le_of_ble_eq_true rfl, Nat.le_of_ble_eq_true rfl⟩ ?_
    refine lv_aload_n hx hb d_X_lost_14 rfl (lv_at hl 0 rfl) ?_
    refine va_get (ci := 0) (C := R_X) (T := F_X) (N := 10) hx hb hts i_X hown hK hP 0 rfl rfl 8 (by decide) (hts _ kf_X_window) (fun _ h => h) rfl d_X_lost_15 ?_
    refine lv_isub hx hb d_X_lost_18 ?_
    refine ea_ti (y := (ea_I (((ea_tp (σ.1 ln)) : Int) - (w : Int)))) (ea_sub) ?_
    refine lv_istore_n (lv' := [(2, .int ((ea_I (((ea_tp (σ.1 ln)) : Int) - (w : Int))))), (0, .ref ((q 0))), (1, .int ((nI ln)))]) hx hb d_X_lost_19 rfl hl (by decide) rfl (fun ls hl => ?_)
    refine lv_iload_n hx hb d_X_lost_20 rfl (lv_at hl 0 rfl) ?_
    refine lv_if_gt (tgt := 26) hx hb d_X_lost_21 (by decide) (fun c1 => ?_) (fun c1 => ?_)
    · have c1 := (ea_lt' 0 (((ea_tp (σ.1 ln)) : Int) - (w : Int)) rfl rfl (by omega) (by omega)).mp c1
      refine lv_iload_n hx hb d_X_lost_26 rfl (lv_at hl 0 rfl) ?_
      refine ea_ti (y := (nI ((ea_tp (σ.1 ln)) - w))) (by rw [ea_In]; exact congrArg ea_I (by omega)) ?_
      refine lv_aload_n hx hb d_X_lost_27 rfl (lv_at hl 1 rfl) ?_
      refine lv_iload_n hx hb d_X_lost_28 rfl (lv_at hl 2 rfl) ?_
      refine lv_iload_n hx hb d_X_lost_29 rfl (lv_at hl 0 rfl) ?_
      refine ea_ti (y := (nI ((ea_tp (σ.1 ln)) - w))) (by rw [ea_In]; exact congrArg ea_I (by omega)) ?_
      refine lv_iconst (v := 1) hx hb d_X_lost_30 (by decide) ?_
      refine lv_iadd hx hb d_X_lost_31 ?_
      refine ea_ti (y := (nI ((ea_tp (σ.1 ln)) - w + 1))) (nI_1 _) ?_
      refine ea_callR (As := [.int ((nI ln)), .int ((nI ((ea_tp (σ.1 ln)) - w + 1)))]) (rest := [.int ((nI ((ea_tp (σ.1 ln)) - w)))]) (r := (nI (ea_pl ((ea_tp (σ.1 ln)) - w + 1) (σ.1 ln)))) ⟨hx, hb, hml, hown, hts⟩ hK hP rfl rfl (c_X_place l D q cI cJ w mk u ln hln (σ.1 ln) hzo hps hli ((ea_tp (σ.1 ln)) - w + 1) (by omega)) ⟨kl_X_64, kn_X_place, ks_X_place, ki_X, kc_X_place⟩ kd_X_place (by decide) ⟨Nat.le_of_ble_eq_true rfl, Nat.le_of_ble_eq_true rfl⟩ hl.1 rfl (Nat.le_of_ble_eq_true rfl) d_X_lost_32 ⟨Nat.le_of_ble_eq_true rfl, Nat.le_of_ble_eq_true rfl⟩ ?_
      refine lv_isub hx hb d_X_lost_35 ?_
      exact ea_retI hx hb hr hlocks (by rw [ea_pl_cnt hzo.1]; rfl) d_X_lost_36
    · have c1 := mt (ea_lt' 0 (((ea_tp (σ.1 ln)) : Int) - (w : Int)) rfl rfl (by omega) (by omega)).mpr c1
      have hz0 : (σ.1 ln).countP (fun x => decide (x ≤ (ea_tp (σ.1 ln)) - w)) = 0 := by
        rw [List.countP_eq_zero]
        intro k hk
        have := hzo.2.1 k hk
        simp
        omega
      refine lv_iconst (v := 0) hx hb d_X_lost_24 (by decide) ?_
      exact ea_retI hx hb hr hlocks (by unfold ea_lost; rw [hz0, show (ea_tp (σ.1 ln)) - w = 0 by omega]; decide) d_X_lost_25
  · rw [show sp_lost w σ x = -1 by unfold sp_lost; rw [if_neg hL]]
    refine ea_start (by decide) (Nat.le_of_ble_eq_true rfl) ?_
    intro p e s m below meth c ls hx hb hr hlocks hml hown hts hnm hB hl
    have hown : s.vm.findClass R_X = some m.cls := hown
    obtain ⟨hP, hK⟩ := hB
    have hl : lv_has ls 3 [(0, .ref ((q 0))), (1, .int x)] := hl
    refine lv_iload_n hx hb d_X_lost_0 rfl (lv_at hl 1 rfl) ?_
    refine ea_callS (As := [.int x]) (rest := []) (r := 0) ⟨hx, hb, hml, hown, hts⟩ (c_X_isLine0 l hL) ⟨kl_X_45, kt_X_isLine, ki_X, kc_X_isLine⟩ kd_X_isLine (by decide) ⟨Nat.le_of_ble_eq_true rfl, Nat.le_of_ble_eq_true rfl⟩ hl.1 rfl (Nat.le_of_ble_eq_true rfl) d_X_lost_1 ⟨Nat.le_of_ble_eq_true rfl, Nat.le_of_ble_eq_true rfl⟩ ?_
    refine lv_if_ne (tgt := 9) hx hb d_X_lost_4 (by decide) (fun c9 => absurd (rfl) c9) (fun _ => ?_)
    refine lv_iconst (v := (-1)) hx hb d_X_lost_7 (by decide) ?_
    exact ea_retI hx hb hr hlocks (rfl) d_X_lost_8
set_option maxHeartbeats 4000000 in
set_option maxRecDepth 100000 in
theorem c_X_gap (l : Launch) (D : va_G) (q : Nat → Nat) (cI cJ : ClassId) (w : Nat) (mk : Int64) (hcx : ea_cx w mk) (σ : ea_S) (hok : ea_ok σ) (u : ea_XS) (hR : ea_RX w σ u) (x : Int32) : Met l y_X_gap (.code y_X_gap b_X_gap 4 (some .int) :: ea_tb) (ea_rm 1) (va_Pc [.ref ((q 0)), .int x] (ea_B D (ea_ty cI cJ) (ea_wX q cI cJ (nI w) mk u))) (QcRead (sp_gap w σ x)) 0 0 (fun _ => False) := by
  by_cases hL : ea_isL x
  · obtain ⟨ln, hln, rfl, hnx⟩ := ea_isL_n hL
    rw [show sp_gap w σ (nI ln) = nI (ea_gp (σ.1 ln) (ea_tp (σ.1 ln)) (min w (ea_tp (σ.1 ln)) - 1) 1) by unfold sp_gap; rw [if_pos hL, hnx]]
    refine ea_start (by decide) (Nat.le_of_ble_eq_true rfl) ?_
    intro p e s m below meth c ls hx hb hr hlocks hml hown hts hnm hB hl
    have hown : s.vm.findClass R_X = some m.cls := hown
    obtain ⟨hP, hK⟩ := hB
    have hl : lv_has ls 4 [(0, .ref ((q 0))), (1, .int ((nI ln)))] := hl
    obtain ⟨⟨hth, htl, hbs, hps, hli⟩, hsf, hhd, hvd⟩ := hR ln hln
    have hw4 := hcx.1
    have hw64 := hcx.2.1
    have hzo := (hok ln hln).1
    have h15 := ea_tp15 hzo
    have hlen60 := hzo.2.2.1
    obtain ⟨-, ⟨hd1, hd60⟩, hs60⟩ := hok ln hln
    generalize hG : (ea_gp (σ.1 ln) (ea_tp (σ.1 ln)) (min w (ea_tp (σ.1 ln)) - 1) 1) = G
    have loop : ∀ (g k : Nat) (ls : Array Slot), 1 ≤ k → k ≤ 64 → g = min w (ea_tp (σ.1 ln)) - k → ea_gp (σ.1 ln) (ea_tp (σ.1 ln)) g k = G → lv_has ls 4 [(0, .ref ((q 0))), (1, .int ((nI ln))), (2, .int ((nI (ea_tp (σ.1 ln))))), (3, .int ((nI k)))] → W p l e (ea_rm 1) s m [.ref ((q 0)), .int ((nI ln))].toArray below meth c s.heap [] 0 0 (MQ below (QcRead (nI G)) [.ref ((q 0)), .int ((nI ln))].toArray s 0 0 (fun _ => False)) (F0 m 17 ls []) := by
      intro g
      induction g with
      | zero =>
        intro k ls hk1 hk64 hg hgp hl
        refine lv_iload_n hx hb d_X_gap_17 rfl (lv_at hl 3 rfl) ?_
        refine lv_aload_n hx hb d_X_gap_18 rfl (lv_at hl 0 rfl) ?_
        refine va_get (ci := 0) (C := R_X) (T := F_X) (N := 10) hx hb hts i_X hown hK hP 0 rfl rfl 8 (by decide) (hts _ kf_X_window) (fun _ h => h) rfl d_X_gap_19 ?_
        refine lv_icmp_ge (tgt := 55) hx hb d_X_gap_22 (by decide) (fun c1 => ?_) (fun c1 => ?_)
        · refine lv_iconst (v := 0) hx hb d_X_gap_55 (by decide) ?_
          exact ea_retI hx hb hr hlocks (by rw [← hgp]; rfl) d_X_gap_56
        · have c1 := mt (nI_leI (by omega) (by omega)).mpr c1
          refine lv_iload_n hx hb d_X_gap_25 rfl (lv_at hl 3 rfl) ?_
          refine lv_iload_n hx hb d_X_gap_26 rfl (lv_at hl 2 rfl) ?_
          refine lv_icmp_ge (tgt := 55) hx hb d_X_gap_27 (by decide) (fun _ => ?_) (fun c9 => absurd (nI_le (by omega) (by omega)) c9)
          refine lv_iconst (v := 0) hx hb d_X_gap_55 (by decide) ?_
          exact ea_retI hx hb hr hlocks (by rw [← hgp]; rfl) d_X_gap_56
      | succ g ih =>
        intro k ls hk1 hk64 hg hgp hl
        have hbit : (u.2.2.1 ln).toBitVec.getLsbD k = true ↔ (ea_tp (σ.1 ln)) - k ∈ σ.1 ln := by
          rw [hbs _ (by omega), ea_bit_iff]
          exact ⟨fun h => h.2, fun h => ⟨by omega, h⟩⟩
        refine lv_iload_n hx hb d_X_gap_17 rfl (lv_at hl 3 rfl) ?_
        refine lv_aload_n hx hb d_X_gap_18 rfl (lv_at hl 0 rfl) ?_
        refine va_get (ci := 0) (C := R_X) (T := F_X) (N := 10) hx hb hts i_X hown hK hP 0 rfl rfl 8 (by decide) (hts _ kf_X_window) (fun _ h => h) rfl d_X_gap_19 ?_
        refine lv_icmp_ge (tgt := 55) hx hb d_X_gap_22 (by decide) (fun c9 => absurd c9 (nI_ge (by omega) (by omega))) (fun _ => ?_)
        refine lv_iload_n hx hb d_X_gap_25 rfl (lv_at hl 3 rfl) ?_
        refine lv_iload_n hx hb d_X_gap_26 rfl (lv_at hl 2 rfl) ?_
        refine lv_icmp_ge (tgt := 55) hx hb d_X_gap_27 (by decide) (fun c9 => absurd c9 (nI_ge (by omega) (by omega))) (fun _ => ?_)
        refine lv_aload_n hx hb d_X_gap_30 rfl (lv_at hl 0 rfl) ?_
        refine va_get (ci := 0) (C := R_X) (T := F_X) (N := 10) hx hb hts i_X hown hK hP 0 rfl rfl 2 (by decide) (hts _ kf_X_bits) (fun _ h => h) rfl d_X_gap_31 ?_
        refine lv_iload_n hx hb d_X_gap_34 rfl (lv_at hl 1 rfl) ?_
        refine ea_lld hx hb hK hP 3 1 rfl rfl (ln) (rfl) (hln) (by decide) (v := (u.2.2.1 ln)) (rfl) d_X_gap_35 ?_
        refine lv_iload_n hx hb d_X_gap_36 rfl (lv_at hl 3 rfl) ?_
        refine lv_lushr (v := ((((u.2.2.1 ln) : Int64).toUInt64 >>> (((nI k) : Int32).toInt64.toUInt64 &&& Int64.toUInt64 63)).toInt64)) hx hb d_X_gap_37 (rfl) ?_
        refine lv_lconst (v := 1) hx hb d_X_gap_38 (by decide) ?_
        refine lv_land hx hb d_X_gap_39 ?_
        refine ea_tl (y := (if (u.2.2.1 ln).toBitVec.getLsbD k then 1 else 0)) (ea_bitv _ (by omega)) ?_
        refine lv_lconst (v := 0) hx hb d_X_gap_40 (by decide) ?_
        refine W.lcmp hx hb d_X_gap_41 ?_
        refine lv_if_ne (tgt := 49) hx hb d_X_gap_42 (by decide) (fun c2 => ?_) (fun c2 => ?_)
        · have hin : (ea_tp (σ.1 ln)) - k ∈ σ.1 ln := by
            refine hbit.mp ?_
            cases hc : (u.2.2.1 ln).toBitVec.getLsbD k
            · exact absurd (ea_lg0.mpr hc) c2
            · rfl
          refine lv_iinc (v := (nI (k + 1))) (lv' := [(3, .int ((nI (k + 1)))), (0, .ref ((q 0))), (1, .int ((nI ln))), (2, .int ((nI (ea_tp (σ.1 ln)))))]) hx hb d_X_gap_49 hl (k := 3) rfl (nI_1 _) (by decide) rfl (fun ls hl => ?_)
          refine lv_goto (tgt := 17) hx hb d_X_gap_52 (by decide) ?_
          exact ih (k + 1) ls (by omega) (by omega) (by omega) ((if_pos hin).symm.trans hgp) (lv_sub hl [1, 2, 3, 0] rfl)
        · have hnin : (ea_tp (σ.1 ln)) - k ∉ σ.1 ln := fun h => absurd (hbit.mpr h) (by rw [ea_lg0.mp c2]; decide)
          refine lv_iload_n hx hb d_X_gap_45 rfl (lv_at hl 2 rfl) ?_
          refine lv_iload_n hx hb d_X_gap_46 rfl (lv_at hl 3 rfl) ?_
          refine lv_isub hx hb d_X_gap_47 ?_
          refine ea_ti (y := (nI ((ea_tp (σ.1 ln)) - k))) (pk_sub (by omega)) ?_
          exact ea_retI hx hb hr hlocks (congrArg nI ((if_neg hnin).symm.trans hgp)) d_X_gap_48
    refine lv_iload_n hx hb d_X_gap_0 rfl (lv_at hl 1 rfl) ?_
    refine ea_callS (As := [.int ((nI ln))]) (rest := []) (r := 1) ⟨hx, hb, hml, hown, hts⟩ (c_X_isLine1 l hL) ⟨kl_X_45, kt_X_isLine, ki_X, kc_X_isLine⟩ kd_X_isLine (by decide) ⟨Nat.le_of_ble_eq_true rfl, Nat.le_of_ble_eq_true rfl⟩ hl.1 rfl (Nat.le_of_ble_eq_true rfl) d_X_gap_1 ⟨Nat.le_of_ble_eq_true rfl, Nat.le_of_ble_eq_true rfl⟩ ?_
    refine lv_if_ne (tgt := 9) hx hb d_X_gap_4 (by decide) (fun _ => ?_) (fun c9 => absurd c9 (by decide))
    refine lv_aload_n hx hb d_X_gap_9 rfl (lv_at hl 0 rfl) ?_
    refine lv_iload_n hx hb d_X_gap_10 rfl (lv_at hl 1 rfl) ?_
    refine ea_callR (As := [.int ((nI ln))]) (rest := []) (r := (nI (ea_tp (σ.1 ln)))) ⟨hx, hb, hml, hown, hts⟩ hK hP rfl rfl (c_X_topOf l D q cI cJ w mk hcx σ hok u hR ln hln) ⟨kl_X_56, kn_X_topOf, ks_X_topOf, ki_X, kc_X_topOf⟩ kd_X_topOf (by decide) ⟨Nat.le_of_ble_eq_true rfl, Nat.le_of_ble_eq_true rfl⟩ hl.1 rfl (Nat.le_of_ble_eq_true rfl) d_X_gap_11 ⟨Nat.le_of_ble_eq_true rfl, Nat.le_of_ble_eq_true rfl⟩ ?_
    refine lv_istore_n (lv' := [(2, .int ((nI (ea_tp (σ.1 ln))))), (0, .ref ((q 0))), (1, .int ((nI ln)))]) hx hb d_X_gap_14 rfl hl (by decide) rfl (fun ls hl => ?_)
    refine lv_iconst (v := (nI 1)) hx hb d_X_gap_15 (by decide) ?_
    refine lv_istore_n (lv' := [(3, .int ((nI 1))), (2, .int ((nI (ea_tp (σ.1 ln))))), (0, .ref ((q 0))), (1, .int ((nI ln)))]) hx hb d_X_gap_16 rfl hl (by decide) rfl (fun ls hl => ?_)
    exact loop _ 1 ls (by omega) (by omega) rfl hG (lv_sub hl [2, 3, 1, 0] rfl)
  · rw [show sp_gap w σ x = -1 by unfold sp_gap; rw [if_neg hL]]
    refine ea_start (by decide) (Nat.le_of_ble_eq_true rfl) ?_
    intro p e s m below meth c ls hx hb hr hlocks hml hown hts hnm hB hl
    have hown : s.vm.findClass R_X = some m.cls := hown
    obtain ⟨hP, hK⟩ := hB
    have hl : lv_has ls 4 [(0, .ref ((q 0))), (1, .int x)] := hl
    refine lv_iload_n hx hb d_X_gap_0 rfl (lv_at hl 1 rfl) ?_
    refine ea_callS (As := [.int x]) (rest := []) (r := 0) ⟨hx, hb, hml, hown, hts⟩ (c_X_isLine0 l hL) ⟨kl_X_45, kt_X_isLine, ki_X, kc_X_isLine⟩ kd_X_isLine (by decide) ⟨Nat.le_of_ble_eq_true rfl, Nat.le_of_ble_eq_true rfl⟩ hl.1 rfl (Nat.le_of_ble_eq_true rfl) d_X_gap_1 ⟨Nat.le_of_ble_eq_true rfl, Nat.le_of_ble_eq_true rfl⟩ ?_
    refine lv_if_ne (tgt := 9) hx hb d_X_gap_4 (by decide) (fun c9 => absurd (rfl) c9) (fun _ => ?_)
    refine lv_iconst (v := (-1)) hx hb d_X_gap_7 (by decide) ?_
    exact ea_retI hx hb hr hlocks (rfl) d_X_gap_8
end
section
theorem ea_RX_rekey {w : Nat} {σ : ea_S} {th tl : Nat → Int32} {bs : Nat → Int64} {ps li sf hd vd : Nat → Int32} {ln : Nat} (hR : ea_RX w σ (th, tl, bs, ps, li, sf, hd, vd)) {th1 tl1 : Nat → Int32} {bs1 : Nat → Int64} {ps1 : Nat → Int32} (h1 : th1 = upd th ln 0) (h2 : tl1 = upd tl ln 0) (h3 : bs1 = vp_updL bs ln 0) (h4 : ps1 = upd ps ln 0) : ea_RX w (va_up σ.1 ln [], σ.2) (th1, tl1, bs1, ps1, li, sf, hd, vd) := by
  intro j hj
  obtain ⟨⟨a1, a2, a3, a4, a5⟩, b⟩ := hR j hj
  refine ⟨?_, b⟩
  subst h1 h2 h3 h4
  by_cases e : j = ln
  · subst e
    show ea_XL w (va_up σ.1 j [] j) (upd th j 0 j) (upd tl j 0 j) (vp_updL bs j 0 j) (upd ps j 0 j) _
    rw [va_up_self, pk_us, pk_us, pk_uLs, pk_us]
    exact ⟨rfl, rfl, fun k hk => by simp [ea_bit], rfl, fun i hi => absurd hi (Nat.not_lt_zero _)⟩
  · show ea_XL w (va_up σ.1 ln [] j) (upd th ln 0 j) (upd tl ln 0 j) (vp_updL bs ln 0 j) (upd ps ln 0 j) _
    rw [va_up_ne _ _ e, pk_un e, pk_un e, pk_uLn e, pk_un e]
    exact ⟨a1, a2, a3, a4, a5⟩
theorem ea_RX_lim {w : Nat} {σ : ea_S} {th tl : Nat → Int32} {bs : Nat → Int64} {ps li sf hd vd : Nat → Int32} {ln a b : Nat} (hR : ea_RX w σ (th, tl, bs, ps, li, sf, hd, vd)) {sf1 hd1 : Nat → Int32} (h1 : sf1 = upd sf ln (nI a)) (h2 : hd1 = upd hd ln (nI b)) : ea_RX w (σ.1, va_up σ.2.1 ln a, va_up σ.2.2.1 ln b, σ.2.2.2) (th, tl, bs, ps, li, sf1, hd1, vd) := by
  intro j hj
  obtain ⟨a1, b1, b2, b3⟩ := hR j hj
  subst h1 h2
  by_cases e : j = ln
  · subst e
    refine ⟨a1, ?_, ?_, b3⟩
    · show upd sf j (nI a) j = nI (va_up σ.2.1 j a j)
      rw [va_up_self, pk_us]
    · show upd hd j (nI b) j = nI (va_up σ.2.2.1 j b j)
      rw [va_up_self, pk_us]
  · refine ⟨a1, ?_, ?_, b3⟩
    · show upd sf ln (nI a) j = nI (va_up σ.2.1 ln a j)
      rw [va_up_ne _ _ e, pk_un e]
      exact b1
    · show upd hd ln (nI b) j = nI (va_up σ.2.2.1 ln b j)
      rw [va_up_ne _ _ e, pk_un e]
      exact b2
set_option maxHeartbeats 4000000 in
set_option maxRecDepth 100000 in
theorem c_X_rekey (l : Launch) (D : va_G) (q : Nat → Nat) (hq : ea_ap 9 q) (cI cJ : ClassId) (w : Nat) (mk : Int64) (hcx : ea_cx w mk) (σ : ea_S) (hok : ea_ok σ) (u : ea_XS) (hR : ea_RX w σ u) (x : Int32) : Met l y_X_rekey (.code y_X_rekey b_X_rekey 3 (some .int) :: ea_tb) (ea_rm 1) (va_Pc [.ref ((q 0)), .int x] (ea_B D (ea_ty cI cJ) (ea_wX q cI cJ (nI w) mk u))) (va_Qi (fun (r : Int32) (u' : ea_XS) => r = (sp_rekey σ x).1 ∧ ea_RX w (sp_rekey σ x).2 u') (fun u' t => ea_PX D q cI cJ (nI w) mk u' t.heap) (ea_AX 9 q)) 0 0 (ea_AX 9 q) := by
  obtain ⟨th, tl, bs, ps, li, sf, hd, vd⟩ := u
  by_cases hL : ea_isL x
  · obtain ⟨ln, hln, rfl, hnx⟩ := ea_isL_n hL
    rw [show sp_rekey σ (nI ln) = (nI (σ.1 ln).length, (va_up σ.1 ln [], σ.2)) by unfold sp_rekey; rw [if_pos hL, hnx]]
    refine ea_start (by decide) (Nat.le_of_ble_eq_true rfl) ?_
    intro p e s m below meth c ls hx hb hr hlocks hml hown hts hnm hB hl
    have hown : s.vm.findClass R_X = some m.cls := hown
    obtain ⟨hP, hK⟩ := hB
    have hl : lv_has ls 3 [(0, .ref ((q 0))), (1, .int ((nI ln)))] := hl
    have hS : va_S (ea_AX 9 q) s.heap s.heap [] := va_S.rf
    have hD : va_D (ea_AX 9 q) (ea_wX q cI cJ (nI w) mk (th, tl, bs, ps, li, sf, hd, vd)) := ea_DX hq
    obtain ⟨⟨hth, htl, hbs, hps, hli⟩, hsf, hhd, hvd⟩ := hR ln hln
    have hw4 := hcx.1
    have hw64 := hcx.2.1
    have hzo := (hok ln hln).1
    have hlen60 := hzo.2.2.1
    refine lv_iload_n hx hb d_X_rekey_0 rfl (lv_at hl 1 rfl) ?_
    refine ea_callS (As := [.int ((nI ln))]) (rest := []) (r := 1) ⟨hx, hb, hml, hown, hts⟩ (c_X_isLine1 l hL) ⟨kl_X_45, kt_X_isLine, ki_X, kc_X_isLine⟩ kd_X_isLine (by decide) ⟨Nat.le_of_ble_eq_true rfl, Nat.le_of_ble_eq_true rfl⟩ hl.1 rfl (Nat.le_of_ble_eq_true rfl) d_X_rekey_1 ⟨Nat.le_of_ble_eq_true rfl, Nat.le_of_ble_eq_true rfl⟩ ?_
    refine lv_if_ne (tgt := 9) hx hb d_X_rekey_4 (by decide) (fun _ => ?_) (fun c9 => absurd c9 (by decide))
    refine lv_aload_n hx hb d_X_rekey_9 rfl (lv_at hl 0 rfl) ?_
    refine va_get (ci := 0) (C := R_X) (T := F_X) (N := 10) hx hb hts i_X hown hK hP 0 rfl rfl 3 (by decide) (hts _ kf_X_passed) (fun _ h => h) rfl d_X_rekey_10 ?_
    refine lv_iload_n hx hb d_X_rekey_13 rfl (lv_at hl 1 rfl) ?_
    refine ea_ild hx hb hK hP 4 0 rfl rfl (ln) (rfl) (hln) (by decide) (v := (nI (σ.1 ln).length)) (hps) d_X_rekey_14 ?_
    refine lv_istore_n (lv' := [(2, .int ((nI (σ.1 ln).length))), (0, .ref ((q 0))), (1, .int ((nI ln)))]) hx hb d_X_rekey_15 rfl hl (by decide) rfl (fun ls hl => ?_)
    refine lv_aload_n hx hb d_X_rekey_16 rfl (lv_at hl 1 rfl) ?_
    refine va_get (ci := 0) (C := R_X) (T := F_X) (N := 10) hx hb hts i_X hown hK hP 0 rfl rfl 0 (by decide) (hts _ kf_X_topHigh) (fun _ h => h) rfl d_X_rekey_17 ?_
    refine lv_iload_n hx hb d_X_rekey_20 rfl (lv_at hl 2 rfl) ?_
    refine lv_iconst (v := 0) hx hb d_X_rekey_21 (by decide) ?_
    refine ea_ist hx hb hK hP hD hS 1 0 rfl rfl (ln) (rfl) (hln) (by decide) d_X_rekey_22 (fun th1 H locs e1 hP hD hS => ?_)
    have hP : va_P D ea_cl (ea_wX q cI cJ (nI w) mk (th1, tl, bs, ps, li, sf, hd, vd)) H := hP
    have hD : va_D (ea_AX 9 q) (ea_wX q cI cJ (nI w) mk (th1, tl, bs, ps, li, sf, hd, vd)) := hD
    have e1 : th1 = upd th (ln) (0) := e1
    refine lv_aload_n hx hb d_X_rekey_23 rfl (lv_at hl 1 rfl) ?_
    refine va_get (ci := 0) (C := R_X) (T := F_X) (N := 10) hx hb hts i_X hown hK hP 0 rfl rfl 1 (by decide) (hts _ kf_X_topLow) (fun _ h => h) rfl d_X_rekey_24 ?_
    refine lv_iload_n hx hb d_X_rekey_27 rfl (lv_at hl 2 rfl) ?_
    refine lv_iconst (v := 0) hx hb d_X_rekey_28 (by decide) ?_
    refine ea_ist hx hb hK hP hD hS 2 0 rfl rfl (ln) (rfl) (hln) (by decide) d_X_rekey_29 (fun tl1 H locs e2 hP hD hS => ?_)
    have hP : va_P D ea_cl (ea_wX q cI cJ (nI w) mk (th1, tl1, bs, ps, li, sf, hd, vd)) H := hP
    have hD : va_D (ea_AX 9 q) (ea_wX q cI cJ (nI w) mk (th1, tl1, bs, ps, li, sf, hd, vd)) := hD
    have e2 : tl1 = upd tl (ln) (0) := e2
    refine lv_aload_n hx hb d_X_rekey_30 rfl (lv_at hl 1 rfl) ?_
    refine va_get (ci := 0) (C := R_X) (T := F_X) (N := 10) hx hb hts i_X hown hK hP 0 rfl rfl 2 (by decide) (hts _ kf_X_bits) (fun _ h => h) rfl d_X_rekey_31 ?_
    refine lv_iload_n hx hb d_X_rekey_34 rfl (lv_at hl 2 rfl) ?_
    refine lv_lconst (v := 0) hx hb d_X_rekey_35 (by decide) ?_
    refine ea_lst hx hb hK hP hD hS 3 1 rfl rfl (ln) (rfl) (hln) (by decide) d_X_rekey_36 (fun bs1 H locs e3 hP hD hS => ?_)
    have hP : va_P D ea_cl (ea_wX q cI cJ (nI w) mk (th1, tl1, bs1, ps, li, sf, hd, vd)) H := hP
    have hD : va_D (ea_AX 9 q) (ea_wX q cI cJ (nI w) mk (th1, tl1, bs1, ps, li, sf, hd, vd)) := hD
    have e3 : bs1 = vp_updL bs (ln) (0) := e3
    refine lv_aload_n hx hb d_X_rekey_37 rfl (lv_at hl 1 rfl) ?_
    refine va_get (ci := 0) (C := R_X) (T := F_X) (N := 10) hx hb hts i_X hown hK hP 0 rfl rfl 3 (by decide) (hts _ kf_X_passed) (fun _ h => h) rfl d_X_rekey_38 ?_
    refine lv_iload_n hx hb d_X_rekey_41 rfl (lv_at hl 2 rfl) ?_
    refine lv_iconst (v := 0) hx hb d_X_rekey_42 (by decide) ?_
    refine ea_ist hx hb hK hP hD hS 4 0 rfl rfl (ln) (rfl) (hln) (by decide) d_X_rekey_43 (fun ps1 H locs e4 hP hD hS => ?_)
    have hP : va_P D ea_cl (ea_wX q cI cJ (nI w) mk (th1, tl1, bs1, ps1, li, sf, hd, vd)) H := hP
    have hD : va_D (ea_AX 9 q) (ea_wX q cI cJ (nI w) mk (th1, tl1, bs1, ps1, li, sf, hd, vd)) := hD
    have e4 : ps1 = upd ps (ln) (0) := e4
    refine lv_iload_n hx hb d_X_rekey_44 rfl (lv_at hl 0 rfl) ?_
    exact ea_retW ((th1, tl1, bs1, ps1, li, sf, hd, vd)) hx hb hr hlocks hS (⟨rfl, ea_RX_rekey hR e1 e2 e3 e4⟩) (hP) d_X_rekey_45
  · rw [show sp_rekey σ x = (-1, σ) by unfold sp_rekey; rw [if_neg hL]]
    refine ea_start (by decide) (Nat.le_of_ble_eq_true rfl) ?_
    intro p e s m below meth c ls hx hb hr hlocks hml hown hts hnm hB hl
    have hown : s.vm.findClass R_X = some m.cls := hown
    obtain ⟨hP, hK⟩ := hB
    have hl : lv_has ls 3 [(0, .ref ((q 0))), (1, .int x)] := hl
    have hS : va_S (ea_AX 9 q) s.heap s.heap [] := va_S.rf
    have hD : va_D (ea_AX 9 q) (ea_wX q cI cJ (nI w) mk (th, tl, bs, ps, li, sf, hd, vd)) := ea_DX hq
    refine lv_iload_n hx hb d_X_rekey_0 rfl (lv_at hl 1 rfl) ?_
    refine ea_callS (As := [.int x]) (rest := []) (r := 0) ⟨hx, hb, hml, hown, hts⟩ (c_X_isLine0 l hL) ⟨kl_X_45, kt_X_isLine, ki_X, kc_X_isLine⟩ kd_X_isLine (by decide) ⟨Nat.le_of_ble_eq_true rfl, Nat.le_of_ble_eq_true rfl⟩ hl.1 rfl (Nat.le_of_ble_eq_true rfl) d_X_rekey_1 ⟨Nat.le_of_ble_eq_true rfl, Nat.le_of_ble_eq_true rfl⟩ ?_
    refine lv_if_ne (tgt := 9) hx hb d_X_rekey_4 (by decide) (fun c9 => absurd (rfl) c9) (fun _ => ?_)
    refine lv_iconst (v := (-1)) hx hb d_X_rekey_7 (by decide) ?_
    exact ea_retW ((th, tl, bs, ps, li, sf, hd, vd)) hx hb hr hlocks hS (⟨rfl, hR⟩) (hP) d_X_rekey_8
set_option maxHeartbeats 4000000 in
set_option maxRecDepth 100000 in
theorem c_X_limits (l : Launch) (D : va_G) (q : Nat → Nat) (hq : ea_ap 9 q) (cI cJ : ClassId) (w : Nat) (mk : Int64) (hcx : ea_cx w mk) (σ : ea_S) (hok : ea_ok σ) (u : ea_XS) (hR : ea_RX w σ u) (x a b : Int32) : Met l y_X_limits (.code y_X_limits b_X_limits 4 (some .int) :: ea_tb) (ea_rm 1) (va_Pc [.ref ((q 0)), .int x, .int a, .int b] (ea_B D (ea_ty cI cJ) (ea_wX q cI cJ (nI w) mk u))) (va_Qi (fun (r : Int32) (u' : ea_XS) => r = (sp_limits σ x a b).1 ∧ ea_RX w (sp_limits σ x a b).2 u') (fun u' t => ea_PX D q cI cJ (nI w) mk u' t.heap) (ea_AX 9 q)) 0 0 (ea_AX 9 q) := by
  obtain ⟨th, tl, bs, ps, li, sf, hd, vd⟩ := u
  by_cases hL : ea_isL x
  · obtain ⟨ln, hln, rfl, hnx⟩ := ea_isL_n hL
    by_cases hb1 : 1 ≤ b
    · by_cases hb2 : b ≤ 60
      · by_cases ha1 : a < 0
        · rw [show sp_limits σ (nI ln) a b = (-3, σ) by unfold sp_limits; rw [if_pos hL, if_pos ⟨hb1, hb2⟩, if_neg (fun h => absurd ha1 (Int32.not_lt.mpr h.1))]]
          refine ea_start (by decide) (Nat.le_of_ble_eq_true rfl) ?_
          intro p e s m below meth c ls hx hb hr hlocks hml hown hts hnm hB hl
          have hown : s.vm.findClass R_X = some m.cls := hown
          obtain ⟨hP, hK⟩ := hB
          have hl : lv_has ls 4 [(0, .ref ((q 0))), (1, .int ((nI ln))), (2, .int a), (3, .int b)] := hl
          have hS : va_S (ea_AX 9 q) s.heap s.heap [] := va_S.rf
          have hD : va_D (ea_AX 9 q) (ea_wX q cI cJ (nI w) mk (th, tl, bs, ps, li, sf, hd, vd)) := ea_DX hq
          refine lv_iload_n hx hb d_X_limits_0 rfl (lv_at hl 1 rfl) ?_
          refine ea_callS (As := [.int ((nI ln))]) (rest := []) (r := 1) ⟨hx, hb, hml, hown, hts⟩ (c_X_isLine1 l hL) ⟨kl_X_45, kt_X_isLine, ki_X, kc_X_isLine⟩ kd_X_isLine (by decide) ⟨Nat.le_of_ble_eq_true rfl, Nat.le_of_ble_eq_true rfl⟩ hl.1 rfl (Nat.le_of_ble_eq_true rfl) d_X_limits_1 ⟨Nat.le_of_ble_eq_true rfl, Nat.le_of_ble_eq_true rfl⟩ ?_
          refine lv_if_ne (tgt := 9) hx hb d_X_limits_4 (by decide) (fun _ => ?_) (fun c9 => absurd c9 (by decide))
          refine lv_iload_n hx hb d_X_limits_9 rfl (lv_at hl 3 rfl) ?_
          refine lv_iconst (v := 1) hx hb d_X_limits_10 (by decide) ?_
          refine lv_icmp_lt (tgt := 20) hx hb d_X_limits_11 (by decide) (fun c9 => absurd c9 (Int32.not_lt.mpr hb1)) (fun _ => ?_)
          refine lv_iload_n hx hb d_X_limits_14 rfl (lv_at hl 3 rfl) ?_
          refine lv_bipush (v := 60) hx hb d_X_limits_15 (by decide) ?_
          refine lv_icmp_le (tgt := 23) hx hb d_X_limits_17 (by decide) (fun _ => ?_) (fun c9 => absurd (hb2) c9)
          refine lv_iload_n hx hb d_X_limits_23 rfl (lv_at hl 2 rfl) ?_
          refine lv_if_lt (tgt := 32) hx hb d_X_limits_24 (by decide) (fun _ => ?_) (fun c9 => absurd (ha1) c9)
          refine lv_bipush (v := (-3)) hx hb d_X_limits_32 (by decide) ?_
          exact ea_retW ((th, tl, bs, ps, li, sf, hd, vd)) hx hb hr hlocks hS (⟨rfl, hR⟩) (hP) d_X_limits_34
        · by_cases ha2 : a ≤ b
          · obtain ⟨bn, hbn, rfl⟩ := nI_of2 (x := b) (M := 60) (n := 60) (by decide) (fun h => absurd (Int32.lt_of_le_of_lt hb1 h) (by decide)) hb2
            obtain ⟨an, han31, rfl⟩ := nI_of (x := a) ha1
            rw [show sp_limits σ (nI ln) (nI an) (nI bn) = ((if bn ≤ (σ.1 ln).length then 1 else 0), (σ.1, va_up σ.2.1 ln an, va_up σ.2.2.1 ln bn, σ.2.2.2)) by unfold sp_limits; rw [if_pos hL, if_pos ⟨hb1, hb2⟩, if_pos ⟨Int32.not_lt.mp ha1, ha2⟩, hnx, show ea_n (nI bn) = bn from nI_clamp (by omega), show ea_n (nI an) = an from nI_clamp (by omega)]]
            refine ea_start (by decide) (Nat.le_of_ble_eq_true rfl) ?_
            intro p e s m below meth c ls hx hb hr hlocks hml hown hts hnm hB hl
            have hown : s.vm.findClass R_X = some m.cls := hown
            obtain ⟨hP, hK⟩ := hB
            have hl : lv_has ls 4 [(0, .ref ((q 0))), (1, .int ((nI ln))), (2, .int ((nI an))), (3, .int ((nI bn)))] := hl
            have hS : va_S (ea_AX 9 q) s.heap s.heap [] := va_S.rf
            have hD : va_D (ea_AX 9 q) (ea_wX q cI cJ (nI w) mk (th, tl, bs, ps, li, sf, hd, vd)) := ea_DX hq
            obtain ⟨⟨hth, htl, hbs, hps, hli⟩, hsf, hhd, hvd⟩ := hR ln hln
            have hw4 := hcx.1
            have hw64 := hcx.2.1
            have hzo := (hok ln hln).1
            have hlen60 := hzo.2.2.1
            refine lv_iload_n hx hb d_X_limits_0 rfl (lv_at hl 1 rfl) ?_
            refine ea_callS (As := [.int ((nI ln))]) (rest := []) (r := 1) ⟨hx, hb, hml, hown, hts⟩ (c_X_isLine1 l hL) ⟨kl_X_45, kt_X_isLine, ki_X, kc_X_isLine⟩ kd_X_isLine (by decide) ⟨Nat.le_of_ble_eq_true rfl, Nat.le_of_ble_eq_true rfl⟩ hl.1 rfl (Nat.le_of_ble_eq_true rfl) d_X_limits_1 ⟨Nat.le_of_ble_eq_true rfl, Nat.le_of_ble_eq_true rfl⟩ ?_
            refine lv_if_ne (tgt := 9) hx hb d_X_limits_4 (by decide) (fun _ => ?_) (fun c9 => absurd c9 (by decide))
            refine lv_iload_n hx hb d_X_limits_9 rfl (lv_at hl 3 rfl) ?_
            refine lv_iconst (v := 1) hx hb d_X_limits_10 (by decide) ?_
            refine lv_icmp_lt (tgt := 20) hx hb d_X_limits_11 (by decide) (fun c9 => absurd c9 (Int32.not_lt.mpr hb1)) (fun _ => ?_)
            refine lv_iload_n hx hb d_X_limits_14 rfl (lv_at hl 3 rfl) ?_
            refine lv_bipush (v := 60) hx hb d_X_limits_15 (by decide) ?_
            refine lv_icmp_le (tgt := 23) hx hb d_X_limits_17 (by decide) (fun _ => ?_) (fun c9 => absurd (hb2) c9)
            refine lv_iload_n hx hb d_X_limits_23 rfl (lv_at hl 2 rfl) ?_
            refine lv_if_lt (tgt := 32) hx hb d_X_limits_24 (by decide) (fun c9 => absurd c9 (ha1)) (fun _ => ?_)
            refine lv_iload_n hx hb d_X_limits_27 rfl (lv_at hl 2 rfl) ?_
            refine lv_iload_n hx hb d_X_limits_28 rfl (lv_at hl 3 rfl) ?_
            refine lv_icmp_le (tgt := 35) hx hb d_X_limits_29 (by decide) (fun _ => ?_) (fun c9 => absurd (ha2) c9)
            refine lv_aload_n hx hb d_X_limits_35 rfl (lv_at hl 0 rfl) ?_
            refine va_get (ci := 0) (C := R_X) (T := F_X) (N := 10) hx hb hts i_X hown hK hP 0 rfl rfl 5 (by decide) (hts _ kf_X_soft) (fun _ h => h) rfl d_X_limits_36 ?_
            refine lv_iload_n hx hb d_X_limits_39 rfl (lv_at hl 1 rfl) ?_
            refine lv_iload_n hx hb d_X_limits_40 rfl (lv_at hl 2 rfl) ?_
            refine ea_ist hx hb hK hP hD hS 6 0 rfl rfl (ln) (rfl) (hln) (by decide) d_X_limits_41 (fun sf1 H locs e1 hP hD hS => ?_)
            have hP : va_P D ea_cl (ea_wX q cI cJ (nI w) mk (th, tl, bs, ps, li, sf1, hd, vd)) H := hP
            have hD : va_D (ea_AX 9 q) (ea_wX q cI cJ (nI w) mk (th, tl, bs, ps, li, sf1, hd, vd)) := hD
            have e1 : sf1 = upd sf (ln) ((nI an)) := e1
            refine lv_aload_n hx hb d_X_limits_42 rfl (lv_at hl 0 rfl) ?_
            refine va_get (ci := 0) (C := R_X) (T := F_X) (N := 10) hx hb hts i_X hown hK hP 0 rfl rfl 6 (by decide) (hts _ kf_X_hard) (fun _ h => h) rfl d_X_limits_43 ?_
            refine lv_iload_n hx hb d_X_limits_46 rfl (lv_at hl 1 rfl) ?_
            refine lv_iload_n hx hb d_X_limits_47 rfl (lv_at hl 3 rfl) ?_
            refine ea_ist hx hb hK hP hD hS 7 0 rfl rfl (ln) (rfl) (hln) (by decide) d_X_limits_48 (fun hd1 H locs e2 hP hD hS => ?_)
            have hP : va_P D ea_cl (ea_wX q cI cJ (nI w) mk (th, tl, bs, ps, li, sf1, hd1, vd)) H := hP
            have hD : va_D (ea_AX 9 q) (ea_wX q cI cJ (nI w) mk (th, tl, bs, ps, li, sf1, hd1, vd)) := hD
            have e2 : hd1 = upd hd (ln) ((nI bn)) := e2
            refine lv_aload_n hx hb d_X_limits_49 rfl (lv_at hl 0 rfl) ?_
            refine va_get (ci := 0) (C := R_X) (T := F_X) (N := 10) hx hb hts i_X hown hK hP 0 rfl rfl 3 (by decide) (hts _ kf_X_passed) (fun _ h => h) rfl d_X_limits_50 ?_
            refine lv_iload_n hx hb d_X_limits_53 rfl (lv_at hl 1 rfl) ?_
            refine ea_ild hx hb hK hP 4 0 rfl rfl (ln) (rfl) (hln) (by decide) (v := (nI (σ.1 ln).length)) (hps) d_X_limits_54 ?_
            refine lv_iload_n hx hb d_X_limits_55 rfl (lv_at hl 3 rfl) ?_
            refine lv_icmp_lt (tgt := 63) hx hb d_X_limits_56 (by decide) (fun c1 => ?_) (fun c1 => ?_)
            · have c1 := (nI_ltI (by omega) (by omega)).mp c1
              refine lv_iconst (v := 0) hx hb d_X_limits_63 (by decide) ?_
              exact ea_retW ((th, tl, bs, ps, li, sf1, hd1, vd)) hx hb hr hlocks hS (⟨(if_neg (by omega)).symm, ea_RX_lim hR e1 e2⟩) (hP) d_X_limits_64
            · have c1 := mt (nI_ltI (by omega) (by omega)).mpr c1
              refine lv_iconst (v := 1) hx hb d_X_limits_59 (by decide) ?_
              refine lv_goto (tgt := 64) hx hb d_X_limits_60 (by decide) ?_
              exact ea_retW ((th, tl, bs, ps, li, sf1, hd1, vd)) hx hb hr hlocks hS (⟨(if_pos (by omega)).symm, ea_RX_lim hR e1 e2⟩) (hP) d_X_limits_64
          · rw [show sp_limits σ (nI ln) a b = (-3, σ) by unfold sp_limits; rw [if_pos hL, if_pos ⟨hb1, hb2⟩, if_neg (fun h => ha2 h.2)]]
            refine ea_start (by decide) (Nat.le_of_ble_eq_true rfl) ?_
            intro p e s m below meth c ls hx hb hr hlocks hml hown hts hnm hB hl
            have hown : s.vm.findClass R_X = some m.cls := hown
            obtain ⟨hP, hK⟩ := hB
            have hl : lv_has ls 4 [(0, .ref ((q 0))), (1, .int ((nI ln))), (2, .int a), (3, .int b)] := hl
            have hS : va_S (ea_AX 9 q) s.heap s.heap [] := va_S.rf
            have hD : va_D (ea_AX 9 q) (ea_wX q cI cJ (nI w) mk (th, tl, bs, ps, li, sf, hd, vd)) := ea_DX hq
            refine lv_iload_n hx hb d_X_limits_0 rfl (lv_at hl 1 rfl) ?_
            refine ea_callS (As := [.int ((nI ln))]) (rest := []) (r := 1) ⟨hx, hb, hml, hown, hts⟩ (c_X_isLine1 l hL) ⟨kl_X_45, kt_X_isLine, ki_X, kc_X_isLine⟩ kd_X_isLine (by decide) ⟨Nat.le_of_ble_eq_true rfl, Nat.le_of_ble_eq_true rfl⟩ hl.1 rfl (Nat.le_of_ble_eq_true rfl) d_X_limits_1 ⟨Nat.le_of_ble_eq_true rfl, Nat.le_of_ble_eq_true rfl⟩ ?_
            refine lv_if_ne (tgt := 9) hx hb d_X_limits_4 (by decide) (fun _ => ?_) (fun c9 => absurd c9 (by decide))
            refine lv_iload_n hx hb d_X_limits_9 rfl (lv_at hl 3 rfl) ?_
            refine lv_iconst (v := 1) hx hb d_X_limits_10 (by decide) ?_
            refine lv_icmp_lt (tgt := 20) hx hb d_X_limits_11 (by decide) (fun c9 => absurd c9 (Int32.not_lt.mpr hb1)) (fun _ => ?_)
            refine lv_iload_n hx hb d_X_limits_14 rfl (lv_at hl 3 rfl) ?_
            refine lv_bipush (v := 60) hx hb d_X_limits_15 (by decide) ?_
            refine lv_icmp_le (tgt := 23) hx hb d_X_limits_17 (by decide) (fun _ => ?_) (fun c9 => absurd (hb2) c9)
            refine lv_iload_n hx hb d_X_limits_23 rfl (lv_at hl 2 rfl) ?_
            refine lv_if_lt (tgt := 32) hx hb d_X_limits_24 (by decide) (fun c9 => absurd c9 (ha1)) (fun _ => ?_)
            refine lv_iload_n hx hb d_X_limits_27 rfl (lv_at hl 2 rfl) ?_
            refine lv_iload_n hx hb d_X_limits_28 rfl (lv_at hl 3 rfl) ?_
            refine lv_icmp_le (tgt := 35) hx hb d_X_limits_29 (by decide) (fun c9 => absurd c9 (ha2)) (fun _ => ?_)
            refine lv_bipush (v := (-3)) hx hb d_X_limits_32 (by decide) ?_
            exact ea_retW ((th, tl, bs, ps, li, sf, hd, vd)) hx hb hr hlocks hS (⟨rfl, hR⟩) (hP) d_X_limits_34
      · rw [show sp_limits σ (nI ln) a b = (-2, σ) by unfold sp_limits; rw [if_pos hL, if_neg (fun h => hb2 h.2)]]
        refine ea_start (by decide) (Nat.le_of_ble_eq_true rfl) ?_
        intro p e s m below meth c ls hx hb hr hlocks hml hown hts hnm hB hl
        have hown : s.vm.findClass R_X = some m.cls := hown
        obtain ⟨hP, hK⟩ := hB
        have hl : lv_has ls 4 [(0, .ref ((q 0))), (1, .int ((nI ln))), (2, .int a), (3, .int b)] := hl
        have hS : va_S (ea_AX 9 q) s.heap s.heap [] := va_S.rf
        have hD : va_D (ea_AX 9 q) (ea_wX q cI cJ (nI w) mk (th, tl, bs, ps, li, sf, hd, vd)) := ea_DX hq
        refine lv_iload_n hx hb d_X_limits_0 rfl (lv_at hl 1 rfl) ?_
        refine ea_callS (As := [.int ((nI ln))]) (rest := []) (r := 1) ⟨hx, hb, hml, hown, hts⟩ (c_X_isLine1 l hL) ⟨kl_X_45, kt_X_isLine, ki_X, kc_X_isLine⟩ kd_X_isLine (by decide) ⟨Nat.le_of_ble_eq_true rfl, Nat.le_of_ble_eq_true rfl⟩ hl.1 rfl (Nat.le_of_ble_eq_true rfl) d_X_limits_1 ⟨Nat.le_of_ble_eq_true rfl, Nat.le_of_ble_eq_true rfl⟩ ?_
        refine lv_if_ne (tgt := 9) hx hb d_X_limits_4 (by decide) (fun _ => ?_) (fun c9 => absurd c9 (by decide))
        refine lv_iload_n hx hb d_X_limits_9 rfl (lv_at hl 3 rfl) ?_
        refine lv_iconst (v := 1) hx hb d_X_limits_10 (by decide) ?_
        refine lv_icmp_lt (tgt := 20) hx hb d_X_limits_11 (by decide) (fun c9 => absurd c9 (Int32.not_lt.mpr hb1)) (fun _ => ?_)
        refine lv_iload_n hx hb d_X_limits_14 rfl (lv_at hl 3 rfl) ?_
        refine lv_bipush (v := 60) hx hb d_X_limits_15 (by decide) ?_
        refine lv_icmp_le (tgt := 23) hx hb d_X_limits_17 (by decide) (fun c9 => absurd c9 (hb2)) (fun _ => ?_)
        refine lv_bipush (v := (-2)) hx hb d_X_limits_20 (by decide) ?_
        exact ea_retW ((th, tl, bs, ps, li, sf, hd, vd)) hx hb hr hlocks hS (⟨rfl, hR⟩) (hP) d_X_limits_22
    · rw [show sp_limits σ (nI ln) a b = (-2, σ) by unfold sp_limits; rw [if_pos hL, if_neg (fun h => hb1 h.1)]]
      refine ea_start (by decide) (Nat.le_of_ble_eq_true rfl) ?_
      intro p e s m below meth c ls hx hb hr hlocks hml hown hts hnm hB hl
      have hown : s.vm.findClass R_X = some m.cls := hown
      obtain ⟨hP, hK⟩ := hB
      have hl : lv_has ls 4 [(0, .ref ((q 0))), (1, .int ((nI ln))), (2, .int a), (3, .int b)] := hl
      have hS : va_S (ea_AX 9 q) s.heap s.heap [] := va_S.rf
      have hD : va_D (ea_AX 9 q) (ea_wX q cI cJ (nI w) mk (th, tl, bs, ps, li, sf, hd, vd)) := ea_DX hq
      refine lv_iload_n hx hb d_X_limits_0 rfl (lv_at hl 1 rfl) ?_
      refine ea_callS (As := [.int ((nI ln))]) (rest := []) (r := 1) ⟨hx, hb, hml, hown, hts⟩ (c_X_isLine1 l hL) ⟨kl_X_45, kt_X_isLine, ki_X, kc_X_isLine⟩ kd_X_isLine (by decide) ⟨Nat.le_of_ble_eq_true rfl, Nat.le_of_ble_eq_true rfl⟩ hl.1 rfl (Nat.le_of_ble_eq_true rfl) d_X_limits_1 ⟨Nat.le_of_ble_eq_true rfl, Nat.le_of_ble_eq_true rfl⟩ ?_
      refine lv_if_ne (tgt := 9) hx hb d_X_limits_4 (by decide) (fun _ => ?_) (fun c9 => absurd c9 (by decide))
      refine lv_iload_n hx hb d_X_limits_9 rfl (lv_at hl 3 rfl) ?_
      refine lv_iconst (v := 1) hx hb d_X_limits_10 (by decide) ?_
      refine lv_icmp_lt (tgt := 20) hx hb d_X_limits_11 (by decide) (fun _ => ?_) (fun c9 => absurd (Int32.not_le.mp hb1) c9)
      refine lv_bipush (v := (-2)) hx hb d_X_limits_20 (by decide) ?_
      exact ea_retW ((th, tl, bs, ps, li, sf, hd, vd)) hx hb hr hlocks hS (⟨rfl, hR⟩) (hP) d_X_limits_22
  · rw [show sp_limits σ x a b = (-1, σ) by unfold sp_limits; rw [if_neg hL]]
    refine ea_start (by decide) (Nat.le_of_ble_eq_true rfl) ?_
    intro p e s m below meth c ls hx hb hr hlocks hml hown hts hnm hB hl
    have hown : s.vm.findClass R_X = some m.cls := hown
    obtain ⟨hP, hK⟩ := hB
    have hl : lv_has ls 4 [(0, .ref ((q 0))), (1, .int x), (2, .int a), (3, .int b)] := hl
    have hS : va_S (ea_AX 9 q) s.heap s.heap [] := va_S.rf
    have hD : va_D (ea_AX 9 q) (ea_wX q cI cJ (nI w) mk (th, tl, bs, ps, li, sf, hd, vd)) := ea_DX hq
    refine lv_iload_n hx hb d_X_limits_0 rfl (lv_at hl 1 rfl) ?_
    refine ea_callS (As := [.int x]) (rest := []) (r := 0) ⟨hx, hb, hml, hown, hts⟩ (c_X_isLine0 l hL) ⟨kl_X_45, kt_X_isLine, ki_X, kc_X_isLine⟩ kd_X_isLine (by decide) ⟨Nat.le_of_ble_eq_true rfl, Nat.le_of_ble_eq_true rfl⟩ hl.1 rfl (Nat.le_of_ble_eq_true rfl) d_X_limits_1 ⟨Nat.le_of_ble_eq_true rfl, Nat.le_of_ble_eq_true rfl⟩ ?_
    refine lv_if_ne (tgt := 9) hx hb d_X_limits_4 (by decide) (fun c9 => absurd (rfl) c9) (fun _ => ?_)
    refine lv_iconst (v := (-1)) hx hb d_X_limits_7 (by decide) ?_
    exact ea_retW ((th, tl, bs, ps, li, sf, hd, vd)) hx hb hr hlocks hS (⟨rfl, hR⟩) (hP) d_X_limits_8
set_option maxHeartbeats 4000000 in
set_option maxRecDepth 100000 in
theorem c_X_receive (l : Launch) (D : va_G) (q : Nat → Nat) (hq : ea_ap 9 q) (cI cJ : ClassId) (w : Nat) (mk : Int64) (hcx : ea_cx w mk) (σ : ea_S) (hok : ea_ok σ) (u : ea_XS) (hR : ea_RX w σ u) (x y pr : Int32) : Met l y_X_receive (.code y_X_receive b_X_receive 4 (some .int) :: ea_tb) (ea_rm 3) (va_Pc [.ref ((q 0)), .int x, .int y, .int pr] (ea_B D (ea_ty cI cJ) (ea_wX q cI cJ (nI w) mk u))) (va_Qi (fun (r : Int32) (u' : ea_XS) => r = (sp_receive w σ x y pr).1 ∧ ea_RX w (sp_receive w σ x y pr).2 u') (fun u' t => ea_PX D q cI cJ (nI w) mk u' t.heap) (ea_AX 9 q)) 0 0 (ea_AX 9 q) := by
  obtain ⟨th, tl, bs, ps, li, sf, hd, vd⟩ := u
  by_cases hL : ea_isL x
  · obtain ⟨ln, hln, rfl, hnx⟩ := ea_isL_n hL
    by_cases hW : ea_isW y
    · obtain ⟨lo, hlo, rfl, hny⟩ := ea_isW_n hW
      rw [show sp_receive w σ (nI ln) (nI lo) pr = (nI (ea_vd w σ ln lo (decide (pr ≠ 0))), ea_ju w σ ln lo (decide (pr ≠ 0))) by unfold sp_receive; rw [if_pos hL, if_pos hW, hnx, hny]]
      refine ea_start (by decide) (Nat.le_of_ble_eq_true rfl) ?_
      intro p e s m below meth c ls hx hb hr hlocks hml hown hts hnm hB hl
      have hown : s.vm.findClass R_X = some m.cls := hown
      obtain ⟨hP, hK⟩ := hB
      have hl : lv_has ls 4 [(0, .ref ((q 0))), (1, .int ((nI ln))), (2, .int ((nI lo))), (3, .int pr)] := hl
      have hS : va_S (ea_AX 9 q) s.heap s.heap [] := va_S.rf
      have hD : va_D (ea_AX 9 q) (ea_wX q cI cJ (nI w) mk (th, tl, bs, ps, li, sf, hd, vd)) := ea_DX hq
      refine lv_iload_n hx hb d_X_receive_0 rfl (lv_at hl 1 rfl) ?_
      refine ea_callS (As := [.int ((nI ln))]) (rest := []) (r := 1) ⟨hx, hb, hml, hown, hts⟩ (c_X_isLine1 l hL) ⟨kl_X_45, kt_X_isLine, ki_X, kc_X_isLine⟩ kd_X_isLine (by decide) ⟨Nat.le_of_ble_eq_true rfl, Nat.le_of_ble_eq_true rfl⟩ hl.1 rfl (Nat.le_of_ble_eq_true rfl) d_X_receive_1 ⟨Nat.le_of_ble_eq_true rfl, Nat.le_of_ble_eq_true rfl⟩ ?_
      refine lv_if_ne (tgt := 9) hx hb d_X_receive_4 (by decide) (fun _ => ?_) (fun c9 => absurd c9 (by decide))
      refine lv_iload_n hx hb d_X_receive_9 rfl (lv_at hl 2 rfl) ?_
      refine ea_callS (As := [.int ((nI lo))]) (rest := []) (r := 1) ⟨hx, hb, hml, hown, hts⟩ (c_X_isLow1 l hW) ⟨kl_X_49, kt_X_isLow, ki_X, kc_X_isLow⟩ kd_X_isLow (by decide) ⟨Nat.le_of_ble_eq_true rfl, Nat.le_of_ble_eq_true rfl⟩ hl.1 rfl (Nat.le_of_ble_eq_true rfl) d_X_receive_10 ⟨Nat.le_of_ble_eq_true rfl, Nat.le_of_ble_eq_true rfl⟩ ?_
      refine lv_if_ne (tgt := 19) hx hb d_X_receive_13 (by decide) (fun _ => ?_) (fun c9 => absurd c9 (by decide))
      refine lv_aload_n hx hb d_X_receive_19 rfl (lv_at hl 0 rfl) ?_
      refine lv_iload_n hx hb d_X_receive_20 rfl (lv_at hl 1 rfl) ?_
      refine lv_iload_n hx hb d_X_receive_21 rfl (lv_at hl 2 rfl) ?_
      refine lv_iload_n hx hb d_X_receive_22 rfl (lv_at hl 3 rfl) ?_
      refine lv_if_eq (tgt := 30) hx hb d_X_receive_23 (by decide) (fun c1 => ?_) (fun c1 => ?_)
      · refine lv_iconst (v := 0) hx hb d_X_receive_30 (by decide) ?_
        refine ea_callW (As := [.int ((nI ln)), .int ((nI lo)), .int 0]) (rest := []) ⟨hx, hb, hml, hown, hts⟩ hK hP rfl rfl (c_X_judge l D q hq cI cJ w mk hcx σ hok (th, tl, bs, ps, li, sf, hd, vd) hR ln hln lo hlo (decide (pr ≠ 0)) 0 (by simp [c1])) ⟨kl_X_52, kn_X_judge, ks_X_judge, ki_X, kc_X_judge⟩ kd_X_judge (by decide) ⟨Nat.le_of_ble_eq_true rfl, Nat.le_of_ble_eq_true rfl⟩ hl.1 rfl (Nat.le_of_ble_eq_true rfl) d_X_receive_31 ⟨Nat.le_of_ble_eq_true rfl, Nat.le_of_ble_eq_true rfl⟩ hS (fun _ h => h) (fun r u1 H locs hpo hPU hz hk hS => ?_)
        exact ea_retW (u1) hx hb hr hlocks hS (hpo) (hPU) d_X_receive_34
      · refine lv_iconst (v := 1) hx hb d_X_receive_26 (by decide) ?_
        refine lv_goto (tgt := 31) hx hb d_X_receive_27 (by decide) ?_
        refine ea_callW (As := [.int ((nI ln)), .int ((nI lo)), .int 1]) (rest := []) ⟨hx, hb, hml, hown, hts⟩ hK hP rfl rfl (c_X_judge l D q hq cI cJ w mk hcx σ hok (th, tl, bs, ps, li, sf, hd, vd) hR ln hln lo hlo (decide (pr ≠ 0)) 1 (by simp [c1])) ⟨kl_X_52, kn_X_judge, ks_X_judge, ki_X, kc_X_judge⟩ kd_X_judge (by decide) ⟨Nat.le_of_ble_eq_true rfl, Nat.le_of_ble_eq_true rfl⟩ hl.1 rfl (Nat.le_of_ble_eq_true rfl) d_X_receive_31 ⟨Nat.le_of_ble_eq_true rfl, Nat.le_of_ble_eq_true rfl⟩ hS (fun _ h => h) (fun r u1 H locs hpo hPU hz hk hS => ?_)
        exact ea_retW (u1) hx hb hr hlocks hS (hpo) (hPU) d_X_receive_34
    · rw [show sp_receive w σ (nI ln) y pr = (-2, σ) by unfold sp_receive; rw [if_pos hL, if_neg hW]]
      refine ea_start (by decide) (Nat.le_of_ble_eq_true rfl) ?_
      intro p e s m below meth c ls hx hb hr hlocks hml hown hts hnm hB hl
      have hown : s.vm.findClass R_X = some m.cls := hown
      obtain ⟨hP, hK⟩ := hB
      have hl : lv_has ls 4 [(0, .ref ((q 0))), (1, .int ((nI ln))), (2, .int y), (3, .int pr)] := hl
      have hS : va_S (ea_AX 9 q) s.heap s.heap [] := va_S.rf
      have hD : va_D (ea_AX 9 q) (ea_wX q cI cJ (nI w) mk (th, tl, bs, ps, li, sf, hd, vd)) := ea_DX hq
      refine lv_iload_n hx hb d_X_receive_0 rfl (lv_at hl 1 rfl) ?_
      refine ea_callS (As := [.int ((nI ln))]) (rest := []) (r := 1) ⟨hx, hb, hml, hown, hts⟩ (c_X_isLine1 l hL) ⟨kl_X_45, kt_X_isLine, ki_X, kc_X_isLine⟩ kd_X_isLine (by decide) ⟨Nat.le_of_ble_eq_true rfl, Nat.le_of_ble_eq_true rfl⟩ hl.1 rfl (Nat.le_of_ble_eq_true rfl) d_X_receive_1 ⟨Nat.le_of_ble_eq_true rfl, Nat.le_of_ble_eq_true rfl⟩ ?_
      refine lv_if_ne (tgt := 9) hx hb d_X_receive_4 (by decide) (fun _ => ?_) (fun c9 => absurd c9 (by decide))
      refine lv_iload_n hx hb d_X_receive_9 rfl (lv_at hl 2 rfl) ?_
      refine ea_callS (As := [.int y]) (rest := []) (r := 0) ⟨hx, hb, hml, hown, hts⟩ (c_X_isLow0 l hW) ⟨kl_X_49, kt_X_isLow, ki_X, kc_X_isLow⟩ kd_X_isLow (by decide) ⟨Nat.le_of_ble_eq_true rfl, Nat.le_of_ble_eq_true rfl⟩ hl.1 rfl (Nat.le_of_ble_eq_true rfl) d_X_receive_10 ⟨Nat.le_of_ble_eq_true rfl, Nat.le_of_ble_eq_true rfl⟩ ?_
      refine lv_if_ne (tgt := 19) hx hb d_X_receive_13 (by decide) (fun c9 => absurd (rfl) c9) (fun _ => ?_)
      refine lv_bipush (v := (-2)) hx hb d_X_receive_16 (by decide) ?_
      exact ea_retW ((th, tl, bs, ps, li, sf, hd, vd)) hx hb hr hlocks hS (⟨rfl, hR⟩) (hP) d_X_receive_18
  · rw [show sp_receive w σ x y pr = (-1, σ) by unfold sp_receive; rw [if_neg hL]]
    refine ea_start (by decide) (Nat.le_of_ble_eq_true rfl) ?_
    intro p e s m below meth c ls hx hb hr hlocks hml hown hts hnm hB hl
    have hown : s.vm.findClass R_X = some m.cls := hown
    obtain ⟨hP, hK⟩ := hB
    have hl : lv_has ls 4 [(0, .ref ((q 0))), (1, .int x), (2, .int y), (3, .int pr)] := hl
    have hS : va_S (ea_AX 9 q) s.heap s.heap [] := va_S.rf
    have hD : va_D (ea_AX 9 q) (ea_wX q cI cJ (nI w) mk (th, tl, bs, ps, li, sf, hd, vd)) := ea_DX hq
    refine lv_iload_n hx hb d_X_receive_0 rfl (lv_at hl 1 rfl) ?_
    refine ea_callS (As := [.int x]) (rest := []) (r := 0) ⟨hx, hb, hml, hown, hts⟩ (c_X_isLine0 l hL) ⟨kl_X_45, kt_X_isLine, ki_X, kc_X_isLine⟩ kd_X_isLine (by decide) ⟨Nat.le_of_ble_eq_true rfl, Nat.le_of_ble_eq_true rfl⟩ hl.1 rfl (Nat.le_of_ble_eq_true rfl) d_X_receive_1 ⟨Nat.le_of_ble_eq_true rfl, Nat.le_of_ble_eq_true rfl⟩ ?_
    refine lv_if_ne (tgt := 9) hx hb d_X_receive_4 (by decide) (fun c9 => absurd (rfl) c9) (fun _ => ?_)
    refine lv_iconst (v := (-1)) hx hb d_X_receive_7 (by decide) ?_
    exact ea_retW ((th, tl, bs, ps, li, sf, hd, vd)) hx hb hr hlocks hS (⟨rfl, hR⟩) (hP) d_X_receive_8
set_option maxHeartbeats 4000000 in
set_option maxRecDepth 100000 in
theorem c_X_burst (l : Launch) (D : va_G) (q : Nat → Nat) (hq : ea_ap 9 q) (cI cJ : ClassId) (w : Nat) (mk : Int64) (hcx : ea_cx w mk) (σ : ea_S) (hok : ea_ok σ) (u : ea_XS) (hR : ea_RX w σ u) (x y st ct : Int32) : Met l y_X_burst (.code y_X_burst b_X_burst 8 (some .int) :: ea_tb) (ea_rm 3) (va_Pc [.ref ((q 0)), .int x, .int y, .int st, .int ct] (ea_B D (ea_ty cI cJ) (ea_wX q cI cJ (nI w) mk u))) (va_Qi (fun (r : Int32) (u' : ea_XS) => r = (sp_burst w σ x y st ct).1 ∧ ea_RX w (sp_burst w σ x y st ct).2 u') (fun u' t => ea_PX D q cI cJ (nI w) mk u' t.heap) (ea_AX 9 q)) 0 0 (ea_AX 9 q) := by
  obtain ⟨th, tl, bs, ps, li, sf, hd, vd⟩ := u
  by_cases hL : ea_isL x
  · obtain ⟨ln, hln, rfl, hnx⟩ := ea_isL_n hL
    by_cases hW : ea_isW y
    · by_cases hs1 : -64 ≤ st
      · by_cases hs2 : st ≤ 64
        · by_cases hc1 : 1 ≤ ct
          · by_cases hc2 : ct ≤ 40
            · obtain ⟨cn, hcn, rfl⟩ := nI_of2 (x := ct) (M := 40) (n := 40) (by decide) (fun h => absurd (Int32.lt_of_le_of_lt hc1 h) (by decide)) hc2
              rw [show sp_burst w σ (nI ln) y st (nI cn) = ea_bu w σ ln y st cn by unfold sp_burst; rw [if_pos hL, if_pos hW, if_pos ⟨hs1, hs2⟩, if_pos ⟨hc1, hc2⟩, hnx, show ea_n (nI cn) = cn from nI_clamp (by omega)]]
              refine ea_start (by decide) (Nat.le_of_ble_eq_true rfl) ?_
              intro p e s m below meth c ls hx hb hr hlocks hml hown hts hnm hB hl
              have hown : s.vm.findClass R_X = some m.cls := hown
              obtain ⟨hP, hK⟩ := hB
              have hl : lv_has ls 8 [(0, .ref ((q 0))), (1, .int ((nI ln))), (2, .int y), (3, .int st), (4, .int ((nI cn)))] := hl
              have hS : va_S (ea_AX 9 q) s.heap s.heap [] := va_S.rf
              have hD : va_D (ea_AX 9 q) (ea_wX q cI cJ (nI w) mk (th, tl, bs, ps, li, sf, hd, vd)) := ea_DX hq
              have loop : ∀ (g k : Nat) (th1 tl1 : Nat → Int32) (bs1 : Nat → Int64) (ps1 li1 sf1 hd1 vd1 : Nat → Int32) (H : Heap) (locs : List Loc) (ls : Array Slot), k + g = cn → ea_RX w (ea_bu w σ ln y st k).2 (th1, tl1, bs1, ps1, li1, sf1, hd1, vd1) → va_P D ea_cl (ea_wX q cI cJ (nI w) mk (th1, tl1, bs1, ps1, li1, sf1, hd1, vd1)) H → va_D (ea_AX 9 q) (ea_wX q cI cJ (nI w) mk (th1, tl1, bs1, ps1, li1, sf1, hd1, vd1)) → va_S (ea_AX 9 q) s.heap H locs → lv_has ls 8 [(0, .ref ((q 0))), (1, .int ((nI ln))), (2, .int y), (3, .int st), (4, .int ((nI cn))), (5, .int ((ea_bu w σ ln y st k).1)), (6, .int ((nI k)))] → W p l e (ea_rm 3) s m [.ref ((q 0)), .int ((nI ln)), .int y, .int st, .int ((nI cn))].toArray below meth c H locs 0 0 (MQ below (va_Qi (fun (r : Int32) (u' : ea_XS) => r = (ea_bu w σ ln y st cn).1 ∧ ea_RX w (ea_bu w σ ln y st cn).2 u') (fun u' t => ea_PX D q cI cJ (nI w) mk u' t.heap) (ea_AX 9 q)) [.ref ((q 0)), .int ((nI ln)), .int y, .int st, .int ((nI cn))].toArray s 0 0 (ea_AX 9 q)) (F0 m 56 ls []) := by
                intro g
                induction g with
                | zero =>
                  intro k th1 tl1 bs1 ps1 li1 sf1 hd1 vd1 H locs ls hk hR1 hP hD hS hl
                  refine lv_iload hx hb d_X_burst_56 (lv_at hl 6 rfl) ?_
                  refine lv_iload hx hb d_X_burst_58 (lv_at hl 4 rfl) ?_
                  refine lv_icmp_ge (tgt := 96) hx hb d_X_burst_60 (by decide) (fun _ => ?_) (fun c9 => absurd (nI_le (by omega) (by omega)) c9)
                  refine lv_iload hx hb d_X_burst_96 (lv_at hl 5 rfl) ?_
                  exact ea_retW ((th1, tl1, bs1, ps1, li1, sf1, hd1, vd1)) hx hb hr hlocks hS (by rw [show cn = k by omega]; exact ⟨rfl, hR1⟩) (hP) d_X_burst_98
                | succ g ih =>
                  intro k th1 tl1 bs1 ps1 li1 sf1 hd1 vd1 H locs ls hk hR1 hP hD hS hl
                  refine lv_iload hx hb d_X_burst_56 (lv_at hl 6 rfl) ?_
                  refine lv_iload hx hb d_X_burst_58 (lv_at hl 4 rfl) ?_
                  refine lv_icmp_ge (tgt := 96) hx hb d_X_burst_60 (by decide) (fun c9 => absurd c9 (nI_ge (by omega) (by omega))) (fun _ => ?_)
                  refine lv_aload_n hx hb d_X_burst_63 rfl (lv_at hl 0 rfl) ?_
                  refine lv_iload_n hx hb d_X_burst_64 rfl (lv_at hl 1 rfl) ?_
                  refine lv_iload_n hx hb d_X_burst_65 rfl (lv_at hl 2 rfl) ?_
                  refine lv_iload hx hb d_X_burst_66 (lv_at hl 6 rfl) ?_
                  refine lv_iload_n hx hb d_X_burst_68 rfl (lv_at hl 3 rfl) ?_
                  refine lv_imul hx hb d_X_burst_69 ?_
                  refine lv_iadd hx hb d_X_burst_70 ?_
                  refine lv_sipush (v := 255) hx hb d_X_burst_71 (by decide) ?_
                  refine lv_iand hx hb d_X_burst_74 ?_
                  refine ea_ti (y := (nI (ea_lk y st k))) ((ea_lk_n y st k).2) ?_
                  refine lv_iconst (v := 1) hx hb d_X_burst_75 (by decide) ?_
                  refine ea_callW (As := [.int ((nI ln)), .int ((nI (ea_lk y st k))), .int 1]) (rest := []) ⟨hx, hb, hml, hown, hts⟩ hK hP rfl rfl (c_X_judge l D q hq cI cJ w mk hcx (ea_bu w σ ln y st k).2 (ea_ok_bu hcx.2.1 hok hln k) (th1, tl1, bs1, ps1, li1, sf1, hd1, vd1) hR1 ln hln (ea_lk y st k) (ea_lk_n y st k).1 true 1 (by decide)) ⟨kl_X_52, kn_X_judge, ks_X_judge, ki_X, kc_X_judge⟩ kd_X_judge (by decide) ⟨Nat.le_of_ble_eq_true rfl, Nat.le_of_ble_eq_true rfl⟩ hl.1 rfl (Nat.le_of_ble_eq_true rfl) d_X_burst_76 ⟨Nat.le_of_ble_eq_true rfl, Nat.le_of_ble_eq_true rfl⟩ hS (fun _ h => h) (fun r u2 H locs hpo hPU hz hk9 hS => ?_)
                  obtain ⟨th2, tl2, bs2, ps2, li2, sf2, hd2, vd2⟩ := u2
                  obtain ⟨hr1, hR2⟩ := hpo
                  refine lv_istore (lv' := [(7, .int r), (0, .ref ((q 0))), (1, .int ((nI ln))), (2, .int y), (3, .int st), (4, .int ((nI cn))), (5, .int ((ea_bu w σ ln y st k).1)), (6, .int ((nI k)))]) hx hb d_X_burst_79 hl (by decide) rfl (fun ls hl => ?_)
                  refine lv_iload hx hb d_X_burst_81 (lv_at hl 0 rfl) ?_
                  refine lv_iconst (v := 1) hx hb d_X_burst_83 (by decide) ?_
                  have hP : va_P D ea_cl (ea_wX q cI cJ (nI w) mk (th2, tl2, bs2, ps2, li2, sf2, hd2, vd2)) H := hPU
                  have hvb := ea_vd_b w (ea_bu w σ ln y st k).2 ln (ea_lk y st k) true
                  refine lv_icmp_ne (tgt := 90) hx hb d_X_burst_84 (by decide) (fun c1 => ?_) (fun c1 => ?_)
                  · have hv1 : ¬ ea_vd w (ea_bu w σ ln y st k).2 ln (ea_lk y st k) true = 1 := fun h => c1 (by rw [hr1, h]; rfl)
                    refine lv_iinc (v := (nI (k + 1))) (lv' := [(6, .int ((nI (k + 1)))), (7, .int r), (0, .ref ((q 0))), (1, .int ((nI ln))), (2, .int y), (3, .int st), (4, .int ((nI cn))), (5, .int ((ea_bu w σ ln y st k).1))]) hx hb d_X_burst_90 hl (k := 7) rfl (nI_1 _) (by decide) rfl (fun ls hl => ?_)
                    refine lv_goto (tgt := 56) hx hb d_X_burst_93 (by decide) ?_
                    rw [show (ea_bu w σ ln y st k).1 = (ea_bu w σ ln y st (k + 1)).1 from (if_neg hv1).symm] at hl
                    exact ih (k + 1) th2 tl2 bs2 ps2 li2 sf2 hd2 vd2 H locs ls (by omega) hR2 hP (ea_DX hq) hS (lv_sub hl [2, 3, 4, 5, 6, 7, 0] rfl)
                  · have hv1 : ea_vd w (ea_bu w σ ln y st k).2 ln (ea_lk y st k) true = 1 := (nI_eq (by omega) (by omega)).mp (hr1.symm.trans c1)
                    refine lv_iinc (v := (ea_bu w σ ln y st (k + 1)).1) (lv' := [(5, .int ((ea_bu w σ ln y st (k + 1)).1)), (7, .int r), (0, .ref ((q 0))), (1, .int ((nI ln))), (2, .int y), (3, .int st), (4, .int ((nI cn))), (6, .int ((nI k)))]) hx hb d_X_burst_87 hl (k := 6) rfl ((if_pos hv1).symm) (by decide) rfl (fun ls hl => ?_)
                    refine lv_iinc (v := (nI (k + 1))) (lv' := [(6, .int ((nI (k + 1)))), (5, .int ((ea_bu w σ ln y st (k + 1)).1)), (7, .int r), (0, .ref ((q 0))), (1, .int ((nI ln))), (2, .int y), (3, .int st), (4, .int ((nI cn)))]) hx hb d_X_burst_90 hl (k := 7) rfl (nI_1 _) (by decide) rfl (fun ls hl => ?_)
                    refine lv_goto (tgt := 56) hx hb d_X_burst_93 (by decide) ?_
                    exact ih (k + 1) th2 tl2 bs2 ps2 li2 sf2 hd2 vd2 H locs ls (by omega) hR2 hP (ea_DX hq) hS (lv_sub hl [3, 4, 5, 6, 7, 1, 0] rfl)
              refine lv_iload_n hx hb d_X_burst_0 rfl (lv_at hl 1 rfl) ?_
              refine ea_callS (As := [.int ((nI ln))]) (rest := []) (r := 1) ⟨hx, hb, hml, hown, hts⟩ (c_X_isLine1 l hL) ⟨kl_X_45, kt_X_isLine, ki_X, kc_X_isLine⟩ kd_X_isLine (by decide) ⟨Nat.le_of_ble_eq_true rfl, Nat.le_of_ble_eq_true rfl⟩ hl.1 rfl (Nat.le_of_ble_eq_true rfl) d_X_burst_1 ⟨Nat.le_of_ble_eq_true rfl, Nat.le_of_ble_eq_true rfl⟩ ?_
              refine lv_if_ne (tgt := 9) hx hb d_X_burst_4 (by decide) (fun _ => ?_) (fun c9 => absurd c9 (by decide))
              refine lv_iload_n hx hb d_X_burst_9 rfl (lv_at hl 2 rfl) ?_
              refine ea_callS (As := [.int y]) (rest := []) (r := 1) ⟨hx, hb, hml, hown, hts⟩ (c_X_isLow1 l hW) ⟨kl_X_49, kt_X_isLow, ki_X, kc_X_isLow⟩ kd_X_isLow (by decide) ⟨Nat.le_of_ble_eq_true rfl, Nat.le_of_ble_eq_true rfl⟩ hl.1 rfl (Nat.le_of_ble_eq_true rfl) d_X_burst_10 ⟨Nat.le_of_ble_eq_true rfl, Nat.le_of_ble_eq_true rfl⟩ ?_
              refine lv_if_ne (tgt := 19) hx hb d_X_burst_13 (by decide) (fun _ => ?_) (fun c9 => absurd c9 (by decide))
              refine lv_iload_n hx hb d_X_burst_19 rfl (lv_at hl 3 rfl) ?_
              refine lv_bipush (v := (-64)) hx hb d_X_burst_20 (by decide) ?_
              refine lv_icmp_lt (tgt := 31) hx hb d_X_burst_22 (by decide) (fun c9 => absurd c9 (Int32.not_lt.mpr hs1)) (fun _ => ?_)
              refine lv_iload_n hx hb d_X_burst_25 rfl (lv_at hl 3 rfl) ?_
              refine lv_bipush (v := 64) hx hb d_X_burst_26 (by decide) ?_
              refine lv_icmp_le (tgt := 34) hx hb d_X_burst_28 (by decide) (fun _ => ?_) (fun c9 => absurd (hs2) c9)
              refine lv_iload hx hb d_X_burst_34 (lv_at hl 4 rfl) ?_
              refine lv_iconst (v := 1) hx hb d_X_burst_36 (by decide) ?_
              refine lv_icmp_lt (tgt := 47) hx hb d_X_burst_37 (by decide) (fun c9 => absurd c9 (Int32.not_lt.mpr hc1)) (fun _ => ?_)
              refine lv_iload hx hb d_X_burst_40 (lv_at hl 4 rfl) ?_
              refine lv_bipush (v := 40) hx hb d_X_burst_42 (by decide) ?_
              refine lv_icmp_le (tgt := 50) hx hb d_X_burst_44 (by decide) (fun _ => ?_) (fun c9 => absurd (hc2) c9)
              refine lv_iconst (v := 0) hx hb d_X_burst_50 (by decide) ?_
              refine lv_istore (lv' := [(5, .int 0), (0, .ref ((q 0))), (1, .int ((nI ln))), (2, .int y), (3, .int st), (4, .int ((nI cn)))]) hx hb d_X_burst_51 hl (by decide) rfl (fun ls hl => ?_)
              refine lv_iconst (v := (nI 0)) hx hb d_X_burst_53 (by decide) ?_
              refine lv_istore (lv' := [(6, .int ((nI 0))), (5, .int 0), (0, .ref ((q 0))), (1, .int ((nI ln))), (2, .int y), (3, .int st), (4, .int ((nI cn)))]) hx hb d_X_burst_54 hl (by decide) rfl (fun ls hl => ?_)
              exact loop cn 0 th tl bs ps li sf hd vd _ _ ls (by omega) hR hP hD hS (lv_sub hl [2, 3, 4, 5, 6, 1, 0] rfl)
            · rw [show sp_burst w σ (nI ln) y st ct = (-4, σ) by unfold sp_burst; rw [if_pos hL, if_pos hW, if_pos ⟨hs1, hs2⟩, if_neg (fun h => hc2 h.2)]]
              refine ea_start (by decide) (Nat.le_of_ble_eq_true rfl) ?_
              intro p e s m below meth c ls hx hb hr hlocks hml hown hts hnm hB hl
              have hown : s.vm.findClass R_X = some m.cls := hown
              obtain ⟨hP, hK⟩ := hB
              have hl : lv_has ls 8 [(0, .ref ((q 0))), (1, .int ((nI ln))), (2, .int y), (3, .int st), (4, .int ct)] := hl
              have hS : va_S (ea_AX 9 q) s.heap s.heap [] := va_S.rf
              have hD : va_D (ea_AX 9 q) (ea_wX q cI cJ (nI w) mk (th, tl, bs, ps, li, sf, hd, vd)) := ea_DX hq
              refine lv_iload_n hx hb d_X_burst_0 rfl (lv_at hl 1 rfl) ?_
              refine ea_callS (As := [.int ((nI ln))]) (rest := []) (r := 1) ⟨hx, hb, hml, hown, hts⟩ (c_X_isLine1 l hL) ⟨kl_X_45, kt_X_isLine, ki_X, kc_X_isLine⟩ kd_X_isLine (by decide) ⟨Nat.le_of_ble_eq_true rfl, Nat.le_of_ble_eq_true rfl⟩ hl.1 rfl (Nat.le_of_ble_eq_true rfl) d_X_burst_1 ⟨Nat.le_of_ble_eq_true rfl, Nat.le_of_ble_eq_true rfl⟩ ?_
              refine lv_if_ne (tgt := 9) hx hb d_X_burst_4 (by decide) (fun _ => ?_) (fun c9 => absurd c9 (by decide))
              refine lv_iload_n hx hb d_X_burst_9 rfl (lv_at hl 2 rfl) ?_
              refine ea_callS (As := [.int y]) (rest := []) (r := 1) ⟨hx, hb, hml, hown, hts⟩ (c_X_isLow1 l hW) ⟨kl_X_49, kt_X_isLow, ki_X, kc_X_isLow⟩ kd_X_isLow (by decide) ⟨Nat.le_of_ble_eq_true rfl, Nat.le_of_ble_eq_true rfl⟩ hl.1 rfl (Nat.le_of_ble_eq_true rfl) d_X_burst_10 ⟨Nat.le_of_ble_eq_true rfl, Nat.le_of_ble_eq_true rfl⟩ ?_
              refine lv_if_ne (tgt := 19) hx hb d_X_burst_13 (by decide) (fun _ => ?_) (fun c9 => absurd c9 (by decide))
              refine lv_iload_n hx hb d_X_burst_19 rfl (lv_at hl 3 rfl) ?_
              refine lv_bipush (v := (-64)) hx hb d_X_burst_20 (by decide) ?_
              refine lv_icmp_lt (tgt := 31) hx hb d_X_burst_22 (by decide) (fun c9 => absurd c9 (Int32.not_lt.mpr hs1)) (fun _ => ?_)
              refine lv_iload_n hx hb d_X_burst_25 rfl (lv_at hl 3 rfl) ?_
              refine lv_bipush (v := 64) hx hb d_X_burst_26 (by decide) ?_
              refine lv_icmp_le (tgt := 34) hx hb d_X_burst_28 (by decide) (fun _ => ?_) (fun c9 => absurd (hs2) c9)
              refine lv_iload hx hb d_X_burst_34 (lv_at hl 4 rfl) ?_
              refine lv_iconst (v := 1) hx hb d_X_burst_36 (by decide) ?_
              refine lv_icmp_lt (tgt := 47) hx hb d_X_burst_37 (by decide) (fun c9 => absurd c9 (Int32.not_lt.mpr hc1)) (fun _ => ?_)
              refine lv_iload hx hb d_X_burst_40 (lv_at hl 4 rfl) ?_
              refine lv_bipush (v := 40) hx hb d_X_burst_42 (by decide) ?_
              refine lv_icmp_le (tgt := 50) hx hb d_X_burst_44 (by decide) (fun c9 => absurd c9 (hc2)) (fun _ => ?_)
              refine lv_bipush (v := (-4)) hx hb d_X_burst_47 (by decide) ?_
              exact ea_retW ((th, tl, bs, ps, li, sf, hd, vd)) hx hb hr hlocks hS (⟨rfl, hR⟩) (hP) d_X_burst_49
          · rw [show sp_burst w σ (nI ln) y st ct = (-4, σ) by unfold sp_burst; rw [if_pos hL, if_pos hW, if_pos ⟨hs1, hs2⟩, if_neg (fun h => hc1 h.1)]]
            refine ea_start (by decide) (Nat.le_of_ble_eq_true rfl) ?_
            intro p e s m below meth c ls hx hb hr hlocks hml hown hts hnm hB hl
            have hown : s.vm.findClass R_X = some m.cls := hown
            obtain ⟨hP, hK⟩ := hB
            have hl : lv_has ls 8 [(0, .ref ((q 0))), (1, .int ((nI ln))), (2, .int y), (3, .int st), (4, .int ct)] := hl
            have hS : va_S (ea_AX 9 q) s.heap s.heap [] := va_S.rf
            have hD : va_D (ea_AX 9 q) (ea_wX q cI cJ (nI w) mk (th, tl, bs, ps, li, sf, hd, vd)) := ea_DX hq
            refine lv_iload_n hx hb d_X_burst_0 rfl (lv_at hl 1 rfl) ?_
            refine ea_callS (As := [.int ((nI ln))]) (rest := []) (r := 1) ⟨hx, hb, hml, hown, hts⟩ (c_X_isLine1 l hL) ⟨kl_X_45, kt_X_isLine, ki_X, kc_X_isLine⟩ kd_X_isLine (by decide) ⟨Nat.le_of_ble_eq_true rfl, Nat.le_of_ble_eq_true rfl⟩ hl.1 rfl (Nat.le_of_ble_eq_true rfl) d_X_burst_1 ⟨Nat.le_of_ble_eq_true rfl, Nat.le_of_ble_eq_true rfl⟩ ?_
            refine lv_if_ne (tgt := 9) hx hb d_X_burst_4 (by decide) (fun _ => ?_) (fun c9 => absurd c9 (by decide))
            refine lv_iload_n hx hb d_X_burst_9 rfl (lv_at hl 2 rfl) ?_
            refine ea_callS (As := [.int y]) (rest := []) (r := 1) ⟨hx, hb, hml, hown, hts⟩ (c_X_isLow1 l hW) ⟨kl_X_49, kt_X_isLow, ki_X, kc_X_isLow⟩ kd_X_isLow (by decide) ⟨Nat.le_of_ble_eq_true rfl, Nat.le_of_ble_eq_true rfl⟩ hl.1 rfl (Nat.le_of_ble_eq_true rfl) d_X_burst_10 ⟨Nat.le_of_ble_eq_true rfl, Nat.le_of_ble_eq_true rfl⟩ ?_
            refine lv_if_ne (tgt := 19) hx hb d_X_burst_13 (by decide) (fun _ => ?_) (fun c9 => absurd c9 (by decide))
            refine lv_iload_n hx hb d_X_burst_19 rfl (lv_at hl 3 rfl) ?_
            refine lv_bipush (v := (-64)) hx hb d_X_burst_20 (by decide) ?_
            refine lv_icmp_lt (tgt := 31) hx hb d_X_burst_22 (by decide) (fun c9 => absurd c9 (Int32.not_lt.mpr hs1)) (fun _ => ?_)
            refine lv_iload_n hx hb d_X_burst_25 rfl (lv_at hl 3 rfl) ?_
            refine lv_bipush (v := 64) hx hb d_X_burst_26 (by decide) ?_
            refine lv_icmp_le (tgt := 34) hx hb d_X_burst_28 (by decide) (fun _ => ?_) (fun c9 => absurd (hs2) c9)
            refine lv_iload hx hb d_X_burst_34 (lv_at hl 4 rfl) ?_
            refine lv_iconst (v := 1) hx hb d_X_burst_36 (by decide) ?_
            refine lv_icmp_lt (tgt := 47) hx hb d_X_burst_37 (by decide) (fun _ => ?_) (fun c9 => absurd (Int32.not_le.mp hc1) c9)
            refine lv_bipush (v := (-4)) hx hb d_X_burst_47 (by decide) ?_
            exact ea_retW ((th, tl, bs, ps, li, sf, hd, vd)) hx hb hr hlocks hS (⟨rfl, hR⟩) (hP) d_X_burst_49
        · rw [show sp_burst w σ (nI ln) y st ct = (-3, σ) by unfold sp_burst; rw [if_pos hL, if_pos hW, if_neg (fun h => hs2 h.2)]]
          refine ea_start (by decide) (Nat.le_of_ble_eq_true rfl) ?_
          intro p e s m below meth c ls hx hb hr hlocks hml hown hts hnm hB hl
          have hown : s.vm.findClass R_X = some m.cls := hown
          obtain ⟨hP, hK⟩ := hB
          have hl : lv_has ls 8 [(0, .ref ((q 0))), (1, .int ((nI ln))), (2, .int y), (3, .int st), (4, .int ct)] := hl
          have hS : va_S (ea_AX 9 q) s.heap s.heap [] := va_S.rf
          have hD : va_D (ea_AX 9 q) (ea_wX q cI cJ (nI w) mk (th, tl, bs, ps, li, sf, hd, vd)) := ea_DX hq
          refine lv_iload_n hx hb d_X_burst_0 rfl (lv_at hl 1 rfl) ?_
          refine ea_callS (As := [.int ((nI ln))]) (rest := []) (r := 1) ⟨hx, hb, hml, hown, hts⟩ (c_X_isLine1 l hL) ⟨kl_X_45, kt_X_isLine, ki_X, kc_X_isLine⟩ kd_X_isLine (by decide) ⟨Nat.le_of_ble_eq_true rfl, Nat.le_of_ble_eq_true rfl⟩ hl.1 rfl (Nat.le_of_ble_eq_true rfl) d_X_burst_1 ⟨Nat.le_of_ble_eq_true rfl, Nat.le_of_ble_eq_true rfl⟩ ?_
          refine lv_if_ne (tgt := 9) hx hb d_X_burst_4 (by decide) (fun _ => ?_) (fun c9 => absurd c9 (by decide))
          refine lv_iload_n hx hb d_X_burst_9 rfl (lv_at hl 2 rfl) ?_
          refine ea_callS (As := [.int y]) (rest := []) (r := 1) ⟨hx, hb, hml, hown, hts⟩ (c_X_isLow1 l hW) ⟨kl_X_49, kt_X_isLow, ki_X, kc_X_isLow⟩ kd_X_isLow (by decide) ⟨Nat.le_of_ble_eq_true rfl, Nat.le_of_ble_eq_true rfl⟩ hl.1 rfl (Nat.le_of_ble_eq_true rfl) d_X_burst_10 ⟨Nat.le_of_ble_eq_true rfl, Nat.le_of_ble_eq_true rfl⟩ ?_
          refine lv_if_ne (tgt := 19) hx hb d_X_burst_13 (by decide) (fun _ => ?_) (fun c9 => absurd c9 (by decide))
          refine lv_iload_n hx hb d_X_burst_19 rfl (lv_at hl 3 rfl) ?_
          refine lv_bipush (v := (-64)) hx hb d_X_burst_20 (by decide) ?_
          refine lv_icmp_lt (tgt := 31) hx hb d_X_burst_22 (by decide) (fun c9 => absurd c9 (Int32.not_lt.mpr hs1)) (fun _ => ?_)
          refine lv_iload_n hx hb d_X_burst_25 rfl (lv_at hl 3 rfl) ?_
          refine lv_bipush (v := 64) hx hb d_X_burst_26 (by decide) ?_
          refine lv_icmp_le (tgt := 34) hx hb d_X_burst_28 (by decide) (fun c9 => absurd c9 (hs2)) (fun _ => ?_)
          refine lv_bipush (v := (-3)) hx hb d_X_burst_31 (by decide) ?_
          exact ea_retW ((th, tl, bs, ps, li, sf, hd, vd)) hx hb hr hlocks hS (⟨rfl, hR⟩) (hP) d_X_burst_33
      · rw [show sp_burst w σ (nI ln) y st ct = (-3, σ) by unfold sp_burst; rw [if_pos hL, if_pos hW, if_neg (fun h => hs1 h.1)]]
        refine ea_start (by decide) (Nat.le_of_ble_eq_true rfl) ?_
        intro p e s m below meth c ls hx hb hr hlocks hml hown hts hnm hB hl
        have hown : s.vm.findClass R_X = some m.cls := hown
        obtain ⟨hP, hK⟩ := hB
        have hl : lv_has ls 8 [(0, .ref ((q 0))), (1, .int ((nI ln))), (2, .int y), (3, .int st), (4, .int ct)] := hl
        have hS : va_S (ea_AX 9 q) s.heap s.heap [] := va_S.rf
        have hD : va_D (ea_AX 9 q) (ea_wX q cI cJ (nI w) mk (th, tl, bs, ps, li, sf, hd, vd)) := ea_DX hq
        refine lv_iload_n hx hb d_X_burst_0 rfl (lv_at hl 1 rfl) ?_
        refine ea_callS (As := [.int ((nI ln))]) (rest := []) (r := 1) ⟨hx, hb, hml, hown, hts⟩ (c_X_isLine1 l hL) ⟨kl_X_45, kt_X_isLine, ki_X, kc_X_isLine⟩ kd_X_isLine (by decide) ⟨Nat.le_of_ble_eq_true rfl, Nat.le_of_ble_eq_true rfl⟩ hl.1 rfl (Nat.le_of_ble_eq_true rfl) d_X_burst_1 ⟨Nat.le_of_ble_eq_true rfl, Nat.le_of_ble_eq_true rfl⟩ ?_
        refine lv_if_ne (tgt := 9) hx hb d_X_burst_4 (by decide) (fun _ => ?_) (fun c9 => absurd c9 (by decide))
        refine lv_iload_n hx hb d_X_burst_9 rfl (lv_at hl 2 rfl) ?_
        refine ea_callS (As := [.int y]) (rest := []) (r := 1) ⟨hx, hb, hml, hown, hts⟩ (c_X_isLow1 l hW) ⟨kl_X_49, kt_X_isLow, ki_X, kc_X_isLow⟩ kd_X_isLow (by decide) ⟨Nat.le_of_ble_eq_true rfl, Nat.le_of_ble_eq_true rfl⟩ hl.1 rfl (Nat.le_of_ble_eq_true rfl) d_X_burst_10 ⟨Nat.le_of_ble_eq_true rfl, Nat.le_of_ble_eq_true rfl⟩ ?_
        refine lv_if_ne (tgt := 19) hx hb d_X_burst_13 (by decide) (fun _ => ?_) (fun c9 => absurd c9 (by decide))
        refine lv_iload_n hx hb d_X_burst_19 rfl (lv_at hl 3 rfl) ?_
        refine lv_bipush (v := (-64)) hx hb d_X_burst_20 (by decide) ?_
        refine lv_icmp_lt (tgt := 31) hx hb d_X_burst_22 (by decide) (fun _ => ?_) (fun c9 => absurd (Int32.not_le.mp hs1) c9)
        refine lv_bipush (v := (-3)) hx hb d_X_burst_31 (by decide) ?_
        exact ea_retW ((th, tl, bs, ps, li, sf, hd, vd)) hx hb hr hlocks hS (⟨rfl, hR⟩) (hP) d_X_burst_33
    · rw [show sp_burst w σ (nI ln) y st ct = (-2, σ) by unfold sp_burst; rw [if_pos hL, if_neg hW]]
      refine ea_start (by decide) (Nat.le_of_ble_eq_true rfl) ?_
      intro p e s m below meth c ls hx hb hr hlocks hml hown hts hnm hB hl
      have hown : s.vm.findClass R_X = some m.cls := hown
      obtain ⟨hP, hK⟩ := hB
      have hl : lv_has ls 8 [(0, .ref ((q 0))), (1, .int ((nI ln))), (2, .int y), (3, .int st), (4, .int ct)] := hl
      have hS : va_S (ea_AX 9 q) s.heap s.heap [] := va_S.rf
      have hD : va_D (ea_AX 9 q) (ea_wX q cI cJ (nI w) mk (th, tl, bs, ps, li, sf, hd, vd)) := ea_DX hq
      refine lv_iload_n hx hb d_X_burst_0 rfl (lv_at hl 1 rfl) ?_
      refine ea_callS (As := [.int ((nI ln))]) (rest := []) (r := 1) ⟨hx, hb, hml, hown, hts⟩ (c_X_isLine1 l hL) ⟨kl_X_45, kt_X_isLine, ki_X, kc_X_isLine⟩ kd_X_isLine (by decide) ⟨Nat.le_of_ble_eq_true rfl, Nat.le_of_ble_eq_true rfl⟩ hl.1 rfl (Nat.le_of_ble_eq_true rfl) d_X_burst_1 ⟨Nat.le_of_ble_eq_true rfl, Nat.le_of_ble_eq_true rfl⟩ ?_
      refine lv_if_ne (tgt := 9) hx hb d_X_burst_4 (by decide) (fun _ => ?_) (fun c9 => absurd c9 (by decide))
      refine lv_iload_n hx hb d_X_burst_9 rfl (lv_at hl 2 rfl) ?_
      refine ea_callS (As := [.int y]) (rest := []) (r := 0) ⟨hx, hb, hml, hown, hts⟩ (c_X_isLow0 l hW) ⟨kl_X_49, kt_X_isLow, ki_X, kc_X_isLow⟩ kd_X_isLow (by decide) ⟨Nat.le_of_ble_eq_true rfl, Nat.le_of_ble_eq_true rfl⟩ hl.1 rfl (Nat.le_of_ble_eq_true rfl) d_X_burst_10 ⟨Nat.le_of_ble_eq_true rfl, Nat.le_of_ble_eq_true rfl⟩ ?_
      refine lv_if_ne (tgt := 19) hx hb d_X_burst_13 (by decide) (fun c9 => absurd (rfl) c9) (fun _ => ?_)
      refine lv_bipush (v := (-2)) hx hb d_X_burst_16 (by decide) ?_
      exact ea_retW ((th, tl, bs, ps, li, sf, hd, vd)) hx hb hr hlocks hS (⟨rfl, hR⟩) (hP) d_X_burst_18
  · rw [show sp_burst w σ x y st ct = (-1, σ) by unfold sp_burst; rw [if_neg hL]]
    refine ea_start (by decide) (Nat.le_of_ble_eq_true rfl) ?_
    intro p e s m below meth c ls hx hb hr hlocks hml hown hts hnm hB hl
    have hown : s.vm.findClass R_X = some m.cls := hown
    obtain ⟨hP, hK⟩ := hB
    have hl : lv_has ls 8 [(0, .ref ((q 0))), (1, .int x), (2, .int y), (3, .int st), (4, .int ct)] := hl
    have hS : va_S (ea_AX 9 q) s.heap s.heap [] := va_S.rf
    have hD : va_D (ea_AX 9 q) (ea_wX q cI cJ (nI w) mk (th, tl, bs, ps, li, sf, hd, vd)) := ea_DX hq
    refine lv_iload_n hx hb d_X_burst_0 rfl (lv_at hl 1 rfl) ?_
    refine ea_callS (As := [.int x]) (rest := []) (r := 0) ⟨hx, hb, hml, hown, hts⟩ (c_X_isLine0 l hL) ⟨kl_X_45, kt_X_isLine, ki_X, kc_X_isLine⟩ kd_X_isLine (by decide) ⟨Nat.le_of_ble_eq_true rfl, Nat.le_of_ble_eq_true rfl⟩ hl.1 rfl (Nat.le_of_ble_eq_true rfl) d_X_burst_1 ⟨Nat.le_of_ble_eq_true rfl, Nat.le_of_ble_eq_true rfl⟩ ?_
    refine lv_if_ne (tgt := 9) hx hb d_X_burst_4 (by decide) (fun c9 => absurd (rfl) c9) (fun _ => ?_)
    refine lv_iconst (v := (-1)) hx hb d_X_burst_7 (by decide) ?_
    exact ea_retW ((th, tl, bs, ps, li, sf, hd, vd)) hx hb hr hlocks hS (⟨rfl, hR⟩) (hP) d_X_burst_8
end
section
theorem ea_tp_app (xs ys : List Nat) : ea_tp (xs ++ ys) = max (ea_tp xs) (ea_tp ys) := by
  induction xs with
  | nil => simp [ea_tp]
  | cons x t ih => simp only [List.cons_append, ea_tp, ih]; omega
theorem ea_take {ns : List Nat} {i : Nat} (h : i < ns.length) : ns.take (i + 1) = ns.take i ++ [ns.getD i 0] := by
  rw [ea_gd h, List.take_succ_eq_append_getElem h]
theorem ea_tp_take {ns : List Nat} {i : Nat} (h : i < ns.length) : ea_tp (ns.take (i + 1)) = max (ea_tp (ns.take i)) (ns.getD i 0) := by
  rw [ea_take h, ea_tp_app]
  simp [ea_tp]
def ea_PM (D : va_G) (q : Nat → Nat) (cI : ClassId) (wi : Int32) (v : ea_MS) (H : Heap) : Prop := va_P D ea_cl (ea_wM q cI wi v) H
theorem ea_RM_acc {σ : ea_S} {nu ma sf hd vd : Nat → Int32} {ln n : Nat} (hR : ea_RM σ (nu, ma, sf, hd, vd)) (hok : ea_ok σ) (hln : ln < 4) (hlen : (σ.1 ln).length < 60) {nu1 ma1 : Nat → Int32} (h1 : nu1 = upd nu (60 * ln + (σ.1 ln).length) (nI n)) (h2 : ma1 = upd ma ln (nI ((σ.1 ln).length + 1))) : ea_RM (ea_acc σ ln n) (nu1, ma1, sf, hd, vd) := by
  intro j hj
  obtain ⟨⟨ns, hp, hl, hf⟩, b⟩ := hR j hj
  refine ⟨?_, b⟩
  have hjl := (hok j hj).1.2.2.1
  have hnl : ns.length = (σ.1 j).length := hp.length_eq
  subst h1 h2
  by_cases e : j = ln
  · subst e
    show ea_ML (va_up σ.1 j (ea_ins n (σ.1 j)) j) (upd ma j _ j) _
    rw [va_up_self, pk_us]
    refine ⟨ns ++ [n], ?_, by rw [List.length_append, hnl]; rfl, fun i hi => ?_⟩
    · exact (List.perm_append_singleton n ns).trans ((List.Perm.cons n hp).trans (ea_ins_perm n (σ.1 j)).symm)
    · rw [List.length_append, List.length_singleton] at hi
      show upd nu (60 * j + (σ.1 j).length) (nI n) (60 * j + i) = _
      by_cases c : i = ns.length
      · rw [c, hnl, pk_us, ← hnl]
        simp [List.getD]
      · rw [pk_un (by omega)]
        have hi2 : i < ns.length := by omega
        rw [show (ns ++ [n]).getD i 0 = ns.getD i 0 by simp [List.getD, List.getElem?_append_left hi2]]
        exact hf i hi2
  · show ea_ML (va_up σ.1 ln (ea_ins n (σ.1 ln)) j) (upd ma ln _ j) _
    rw [va_up_ne _ _ e, pk_un e]
    refine ⟨ns, hp, hl, fun i hi => ?_⟩
    show upd nu (60 * ln + (σ.1 ln).length) (nI n) (60 * j + i) = _
    rw [pk_un (by omega)]
    exact hf i hi
theorem ea_RM_cnt {σ : ea_S} {nu ma sf hd vd vd1 : Nat → Int32} {ln k : Nat} (hR : ea_RM σ (nu, ma, sf, hd, vd)) (hln : ln < 4) (hk : 1 ≤ k ∧ k ≤ 5) (h : vd1 = upd vd (8 * ln + k) (vd (8 * ln + k) + 1)) : ea_RM (ea_cnt σ ln k) (nu, ma, sf, hd, vd1) := by
  intro j hj
  obtain ⟨a, b1, b2, b3⟩ := hR j hj
  refine ⟨a, b1, b2, fun v hv1 hv2 => ?_⟩
  show vd1 (8 * j + v) = if j = ln ∧ v = k then σ.2.2.2 ln k + 1 else σ.2.2.2 j v
  rw [h]
  by_cases e : j = ln ∧ v = k
  · obtain ⟨rfl, rfl⟩ := e
    rw [pk_us, if_pos ⟨rfl, rfl⟩]
    exact congrArg (· + 1) (b3 v hv1 hv2)
  · rw [pk_un (by omega), if_neg e]
    exact b3 v hv1 hv2
set_option maxHeartbeats 4000000 in
set_option maxRecDepth 100000 in
theorem c_M_bad (l : Launch) (D : va_G) (q : Nat → Nat) (cI cJ : ClassId) (w : Nat) (v : ea_MS) (x : Int32) : Met l y_M_bad (.code y_M_bad b_M_bad 2 (some .boolean) :: ea_tb) (ea_rm 0) (va_Pc [.ref ((q 0)), .int x] (ea_B D (ea_ty cI cJ) (ea_wM q cI (nI w) v))) (QcRead (if ea_isL x then 0 else 1)) 0 0 (fun _ => False) := by
  refine ea_start (by decide) (Nat.le_of_ble_eq_true rfl) ?_
  intro p e s m below meth c ls hx hb hr hlocks hml hown hts hnm hB hl
  have hown : s.vm.findClass R_M = some m.cls := hown
  obtain ⟨hP, hK⟩ := hB
  have hl : lv_has ls 2 [(0, .ref ((q 0))), (1, .int x)] := hl
  refine lv_iload_n hx hb d_M_bad_0 rfl (lv_at hl 1 rfl) ?_
  refine lv_if_lt (tgt := 9) hx hb d_M_bad_1 (by decide) (fun c1 => ?_) (fun c1 => ?_)
  · refine lv_iconst (v := 1) hx hb d_M_bad_9 (by decide) ?_
    refine lv_goto (tgt := 14) hx hb d_M_bad_10 (by decide) ?_
    exact ea_retZ hx hb hr hlocks ((if_neg (fun h => absurd c1 (Int32.not_lt.mpr h.1))).symm) (by split <;> simp) d_M_bad_14
  · refine lv_iload_n hx hb d_M_bad_4 rfl (lv_at hl 1 rfl) ?_
    refine lv_iconst (v := 3) hx hb d_M_bad_5 (by decide) ?_
    refine lv_icmp_le (tgt := 13) hx hb d_M_bad_6 (by decide) (fun c2 => ?_) (fun c2 => ?_)
    · refine lv_iconst (v := 0) hx hb d_M_bad_13 (by decide) ?_
      exact ea_retZ hx hb hr hlocks ((if_pos ⟨Int32.not_lt.mp c1, c2⟩).symm) (by split <;> simp) d_M_bad_14
    · refine lv_iconst (v := 1) hx hb d_M_bad_9 (by decide) ?_
      refine lv_goto (tgt := 14) hx hb d_M_bad_10 (by decide) ?_
      exact ea_retZ hx hb hr hlocks ((if_neg (fun h => absurd h.2 (c2))).symm) (by split <;> simp) d_M_bad_14
theorem c_M_bad0 (l : Launch) (D : va_G) (q : Nat → Nat) (cI cJ : ClassId) (w : Nat) (v : ea_MS) {x : Int32} (h : ea_isL x) : Met l y_M_bad (.code y_M_bad b_M_bad 2 (some .boolean) :: ea_tb) (ea_rm 0) (va_Pc [.ref (q 0), .int x] (ea_B D (ea_ty cI cJ) (ea_wM q cI (nI w) v))) (QcRead 0) 0 0 (fun _ => False) := by
  have := c_M_bad l D q cI cJ w v x
  rwa [if_pos h] at this
theorem c_M_bad1 (l : Launch) (D : va_G) (q : Nat → Nat) (cI cJ : ClassId) (w : Nat) (v : ea_MS) {x : Int32} (h : ¬ ea_isL x) : Met l y_M_bad (.code y_M_bad b_M_bad 2 (some .boolean) :: ea_tb) (ea_rm 0) (va_Pc [.ref (q 0), .int x] (ea_B D (ea_ty cI cJ) (ea_wM q cI (nI w) v))) (QcRead 1) 0 0 (fun _ => False) := by
  have := c_M_bad l D q cI cJ w v x
  rwa [if_neg h] at this
set_option maxHeartbeats 4000000 in
set_option maxRecDepth 100000 in
theorem c_M_greatest (l : Launch) (D : va_G) (q : Nat → Nat) (cI cJ : ClassId) (w : Nat) (hw : 4 ≤ w ∧ w ≤ 64) (σ : ea_S) (hok : ea_ok σ) (v : ea_MS) (hR : ea_RM σ v) (ln : Nat) (hln : ln < 4) : Met l y_M_greatest (.code y_M_greatest b_M_greatest 4 (some .int) :: ea_tb) (ea_rm 0) (va_Pc [.ref ((q 0)), .int ((nI ln))] (ea_B D (ea_ty cI cJ) (ea_wM q cI (nI w) v))) (QcRead (nI (ea_tp (σ.1 ln)))) 0 0 (fun _ => False) := by
  refine ea_start (by decide) (Nat.le_of_ble_eq_true rfl) ?_
  intro p e s m below meth c ls hx hb hr hlocks hml hown hts hnm hB hl
  have hown : s.vm.findClass R_M = some m.cls := hown
  obtain ⟨hP, hK⟩ := hB
  have hl : lv_has ls 4 [(0, .ref ((q 0))), (1, .int ((nI ln)))] := hl
  obtain ⟨⟨ns, hperm, hma, hnu⟩, hsf, hhd, hvd⟩ := hR ln hln
  have hzo := (hok ln hln).1
  have h15 := ea_tp15 hzo
  have hlen60 := hzo.2.2.1
  have hnl : ns.length = (σ.1 ln).length := hperm.length_eq
  have htp : ea_tp ns = ea_tp (σ.1 ln) := ea_tp_perm hperm
  have hn31 : ∀ i, i < ns.length → ns.getD i 0 < 2 ^ 31 := fun i hi => by have := ea_tp_le (show ns.getD i 0 ∈ ns by rw [ea_gd hi]; exact List.getElem_mem hi); omega
  have loop : ∀ (g i : Nat) (ls : Array Slot), i + g = ns.length → lv_has ls 4 [(0, .ref ((q 0))), (1, .int ((nI ln))), (2, .int ((nI (ea_tp (ns.take i))))), (3, .int ((nI i)))] → W p l e (ea_rm 0) s m [.ref ((q 0)), .int ((nI ln))].toArray below meth c s.heap [] 0 0 (MQ below (QcRead (nI (ea_tp (σ.1 ln)))) [.ref ((q 0)), .int ((nI ln))].toArray s 0 0 (fun _ => False)) (F0 m 4 ls []) := by
    intro g
    induction g with
    | zero =>
      intro i ls hi hl
      refine lv_iload_n hx hb d_M_greatest_4 rfl (lv_at hl 3 rfl) ?_
      refine lv_aload_n hx hb d_M_greatest_5 rfl (lv_at hl 0 rfl) ?_
      refine va_get (ci := 1) (C := R_M) (T := F_M) (N := 6) hx hb hts i_M hown hK hP 0 rfl rfl 2 (by decide) (hts _ kf_M_many) (fun _ h => h) rfl d_M_greatest_6 ?_
      refine lv_iload_n hx hb d_M_greatest_9 rfl (lv_at hl 1 rfl) ?_
      refine ea_ild hx hb hK hP 2 0 rfl rfl (ln) (rfl) (hln) (by decide) (v := (nI ns.length)) (hma) d_M_greatest_10 ?_
      refine lv_icmp_ge (tgt := 53) hx hb d_M_greatest_11 (by decide) (fun _ => ?_) (fun c9 => absurd (nI_le (by omega) (by omega)) c9)
      refine lv_iload_n hx hb d_M_greatest_53 rfl (lv_at hl 2 rfl) ?_
      exact ea_retI hx hb hr hlocks (by rw [List.take_of_length_le (by omega), htp]) d_M_greatest_54
    | succ g ih =>
      intro i ls hi hl
      have hg31 := hn31 i (by omega)
      have htk := ea_tp_take (ns := ns) (i := i) (by omega)
      have htb : ea_tp (ns.take i) ≤ ea_tp ns := by
        have h9 := ea_tp_app (ns.take i) (ns.drop i)
        rw [List.take_append_drop] at h9
        omega
      refine lv_iload_n hx hb d_M_greatest_4 rfl (lv_at hl 3 rfl) ?_
      refine lv_aload_n hx hb d_M_greatest_5 rfl (lv_at hl 0 rfl) ?_
      refine va_get (ci := 1) (C := R_M) (T := F_M) (N := 6) hx hb hts i_M hown hK hP 0 rfl rfl 2 (by decide) (hts _ kf_M_many) (fun _ h => h) rfl d_M_greatest_6 ?_
      refine lv_iload_n hx hb d_M_greatest_9 rfl (lv_at hl 1 rfl) ?_
      refine ea_ild hx hb hK hP 2 0 rfl rfl (ln) (rfl) (hln) (by decide) (v := (nI ns.length)) (hma) d_M_greatest_10 ?_
      refine lv_icmp_ge (tgt := 53) hx hb d_M_greatest_11 (by decide) (fun c9 => absurd c9 (nI_ge (by omega) (by omega))) (fun _ => ?_)
      refine lv_iload_n hx hb d_M_greatest_14 rfl (lv_at hl 3 rfl) ?_
      refine lv_bipush (v := (nI 60)) hx hb d_M_greatest_15 (by decide) ?_
      refine lv_icmp_ge (tgt := 53) hx hb d_M_greatest_17 (by decide) (fun c9 => absurd c9 (nI_ge (by omega) (by omega))) (fun _ => ?_)
      refine lv_aload_n hx hb d_M_greatest_20 rfl (lv_at hl 0 rfl) ?_
      refine va_get (ci := 1) (C := R_M) (T := F_M) (N := 6) hx hb hts i_M hown hK hP 0 rfl rfl 1 (by decide) (hts _ kf_M_number) (fun _ h => h) rfl d_M_greatest_21 ?_
      refine lv_bipush (v := (nI 60)) hx hb d_M_greatest_24 (by decide) ?_
      refine lv_iload_n hx hb d_M_greatest_26 rfl (lv_at hl 1 rfl) ?_
      refine lv_imul hx hb d_M_greatest_27 ?_
      refine ea_ti (y := (nI (60 * ln))) (pk_mul _ _) ?_
      refine lv_iload_n hx hb d_M_greatest_28 rfl (lv_at hl 3 rfl) ?_
      refine lv_iadd hx hb d_M_greatest_29 ?_
      refine ea_ti (y := (nI (60 * ln + i))) (nI_add _ _) ?_
      refine ea_ild hx hb hK hP 1 0 rfl rfl (60 * ln + i) (rfl) (by omega) (by decide) (v := (nI (ns.getD i 0))) (hnu i (by omega)) d_M_greatest_30 ?_
      refine lv_iload_n hx hb d_M_greatest_31 rfl (lv_at hl 2 rfl) ?_
      refine lv_icmp_le (tgt := 47) hx hb d_M_greatest_32 (by decide) (fun c1 => ?_) (fun c1 => ?_)
      · have c1 := (nI_leI hg31 (by omega)).mp c1
        refine lv_iinc (v := (nI (i + 1))) (lv' := [(3, .int ((nI (i + 1)))), (0, .ref ((q 0))), (1, .int ((nI ln))), (2, .int ((nI (ea_tp (ns.take i)))))]) hx hb d_M_greatest_47 hl (k := 3) rfl (nI_1 _) (by decide) rfl (fun ls hl => ?_)
        refine lv_goto (tgt := 4) hx hb d_M_greatest_50 (by decide) ?_
        rw [show ea_tp (ns.take i) = ea_tp (ns.take (i + 1)) by omega] at hl
        exact ih (i + 1) ls (by omega) (lv_sub hl [1, 2, 3, 0] rfl)
      · have c1 := mt (nI_leI hg31 (by omega)).mpr c1
        refine lv_aload_n hx hb d_M_greatest_35 rfl (lv_at hl 0 rfl) ?_
        refine va_get (ci := 1) (C := R_M) (T := F_M) (N := 6) hx hb hts i_M hown hK hP 0 rfl rfl 1 (by decide) (hts _ kf_M_number) (fun _ h => h) rfl d_M_greatest_36 ?_
        refine lv_bipush (v := (nI 60)) hx hb d_M_greatest_39 (by decide) ?_
        refine lv_iload_n hx hb d_M_greatest_41 rfl (lv_at hl 1 rfl) ?_
        refine lv_imul hx hb d_M_greatest_42 ?_
        refine ea_ti (y := (nI (60 * ln))) (pk_mul _ _) ?_
        refine lv_iload_n hx hb d_M_greatest_43 rfl (lv_at hl 3 rfl) ?_
        refine lv_iadd hx hb d_M_greatest_44 ?_
        refine ea_ti (y := (nI (60 * ln + i))) (nI_add _ _) ?_
        refine ea_ild hx hb hK hP 1 0 rfl rfl (60 * ln + i) (rfl) (by omega) (by decide) (v := (nI (ns.getD i 0))) (hnu i (by omega)) d_M_greatest_45 ?_
        refine lv_istore_n (lv' := [(2, .int ((nI (ns.getD i 0)))), (0, .ref ((q 0))), (1, .int ((nI ln))), (3, .int ((nI i)))]) hx hb d_M_greatest_46 rfl hl (by decide) rfl (fun ls hl => ?_)
        refine lv_iinc (v := (nI (i + 1))) (lv' := [(3, .int ((nI (i + 1)))), (2, .int ((nI (ns.getD i 0)))), (0, .ref ((q 0))), (1, .int ((nI ln)))]) hx hb d_M_greatest_47 hl (k := 3) rfl (nI_1 _) (by decide) rfl (fun ls hl => ?_)
        refine lv_goto (tgt := 4) hx hb d_M_greatest_50 (by decide) ?_
        rw [show ns.getD i 0 = ea_tp (ns.take (i + 1)) by omega] at hl
        exact ih (i + 1) ls (by omega) (lv_sub hl [2, 3, 1, 0] rfl)
  refine lv_iconst (v := (nI 0)) hx hb d_M_greatest_0 (by decide) ?_
  refine lv_istore_n (lv' := [(2, .int ((nI 0))), (0, .ref ((q 0))), (1, .int ((nI ln)))]) hx hb d_M_greatest_1 rfl hl (by decide) rfl (fun ls hl => ?_)
  refine lv_iconst (v := (nI 0)) hx hb d_M_greatest_2 (by decide) ?_
  refine lv_istore_n (lv' := [(3, .int ((nI 0))), (2, .int ((nI 0))), (0, .ref ((q 0))), (1, .int ((nI ln)))]) hx hb d_M_greatest_3 rfl hl (by decide) rfl (fun ls hl => ?_)
  exact loop ns.length 0 ls (by omega) (lv_sub hl [2, 3, 1, 0] rfl)
set_option maxHeartbeats 4000000 in
set_option maxRecDepth 100000 in
theorem c_M_holds (l : Launch) (D : va_G) (q : Nat → Nat) (cI cJ : ClassId) (w : Nat) (hw : 4 ≤ w ∧ w ≤ 64) (σ : ea_S) (hok : ea_ok σ) (v : ea_MS) (hR : ea_RM σ v) (ln : Nat) (hln : ln < 4) (n : Int32) : Met l y_M_holds (.code y_M_holds b_M_holds 4 (some .boolean) :: ea_tb) (ea_rm 0) (va_Pc [.ref ((q 0)), .int ((nI ln)), .int n] (ea_B D (ea_ty cI cJ) (ea_wM q cI (nI w) v))) (QcRead (if n ∈ (σ.1 ln).map nI then 1 else 0)) 0 0 (fun _ => False) := by
  refine ea_start (by decide) (Nat.le_of_ble_eq_true rfl) ?_
  intro p e s m below meth c ls hx hb hr hlocks hml hown hts hnm hB hl
  have hown : s.vm.findClass R_M = some m.cls := hown
  obtain ⟨hP, hK⟩ := hB
  have hl : lv_has ls 4 [(0, .ref ((q 0))), (1, .int ((nI ln))), (2, .int n)] := hl
  obtain ⟨⟨ns, hperm, hma, hnu⟩, hsf, hhd, hvd⟩ := hR ln hln
  have hzo := (hok ln hln).1
  have h15 := ea_tp15 hzo
  have hlen60 := hzo.2.2.1
  have hnl : ns.length = (σ.1 ln).length := hperm.length_eq
  have htp : ea_tp ns = ea_tp (σ.1 ln) := ea_tp_perm hperm
  have hn31 : ∀ i, i < ns.length → ns.getD i 0 < 2 ^ 31 := fun i hi => by have := ea_tp_le (show ns.getD i 0 ∈ ns by rw [ea_gd hi]; exact List.getElem_mem hi); omega
  have loop : ∀ (g i : Nat) (ls : Array Slot), i + g = ns.length → (∀ j, j < i → ¬ nI (ns.getD j 0) = n) → lv_has ls 4 [(0, .ref ((q 0))), (1, .int ((nI ln))), (2, .int n), (3, .int ((nI i)))] → W p l e (ea_rm 0) s m [.ref ((q 0)), .int ((nI ln)), .int n].toArray below meth c s.heap [] 0 0 (MQ below (QcRead (if n ∈ (σ.1 ln).map nI then 1 else 0)) [.ref ((q 0)), .int ((nI ln)), .int n].toArray s 0 0 (fun _ => False)) (F0 m 2 ls []) := by
    intro g
    induction g with
    | zero =>
      intro i ls hi hno hl
      have hnin : n ∉ (σ.1 ln).map nI := by
        intro h
        obtain ⟨y, hy, he⟩ := List.mem_map.mp h
        obtain ⟨j, hj, hjy⟩ := List.getElem_of_mem (hperm.mem_iff.mpr hy)
        exact hno j (by omega) (by rw [ea_gd hj, hjy]; exact he)
      refine lv_iload_n hx hb d_M_holds_2 rfl (lv_at hl 3 rfl) ?_
      refine lv_aload_n hx hb d_M_holds_3 rfl (lv_at hl 0 rfl) ?_
      refine va_get (ci := 1) (C := R_M) (T := F_M) (N := 6) hx hb hts i_M hown hK hP 0 rfl rfl 2 (by decide) (hts _ kf_M_many) (fun _ h => h) rfl d_M_holds_4 ?_
      refine lv_iload_n hx hb d_M_holds_7 rfl (lv_at hl 1 rfl) ?_
      refine ea_ild hx hb hK hP 2 0 rfl rfl (ln) (rfl) (hln) (by decide) (v := (nI ns.length)) (hma) d_M_holds_8 ?_
      refine lv_icmp_ge (tgt := 41) hx hb d_M_holds_9 (by decide) (fun _ => ?_) (fun c9 => absurd (nI_le (by omega) (by omega)) c9)
      refine lv_iconst (v := 0) hx hb d_M_holds_41 (by decide) ?_
      exact ea_retZ hx hb hr hlocks ((if_neg hnin).symm) (by split <;> simp) d_M_holds_42
    | succ g ih =>
      intro i ls hi hno hl
      refine lv_iload_n hx hb d_M_holds_2 rfl (lv_at hl 3 rfl) ?_
      refine lv_aload_n hx hb d_M_holds_3 rfl (lv_at hl 0 rfl) ?_
      refine va_get (ci := 1) (C := R_M) (T := F_M) (N := 6) hx hb hts i_M hown hK hP 0 rfl rfl 2 (by decide) (hts _ kf_M_many) (fun _ h => h) rfl d_M_holds_4 ?_
      refine lv_iload_n hx hb d_M_holds_7 rfl (lv_at hl 1 rfl) ?_
      refine ea_ild hx hb hK hP 2 0 rfl rfl (ln) (rfl) (hln) (by decide) (v := (nI ns.length)) (hma) d_M_holds_8 ?_
      refine lv_icmp_ge (tgt := 41) hx hb d_M_holds_9 (by decide) (fun c9 => absurd c9 (nI_ge (by omega) (by omega))) (fun _ => ?_)
      refine lv_iload_n hx hb d_M_holds_12 rfl (lv_at hl 3 rfl) ?_
      refine lv_bipush (v := (nI 60)) hx hb d_M_holds_13 (by decide) ?_
      refine lv_icmp_ge (tgt := 41) hx hb d_M_holds_15 (by decide) (fun c9 => absurd c9 (nI_ge (by omega) (by omega))) (fun _ => ?_)
      refine lv_aload_n hx hb d_M_holds_18 rfl (lv_at hl 0 rfl) ?_
      refine va_get (ci := 1) (C := R_M) (T := F_M) (N := 6) hx hb hts i_M hown hK hP 0 rfl rfl 1 (by decide) (hts _ kf_M_number) (fun _ h => h) rfl d_M_holds_19 ?_
      refine lv_bipush (v := (nI 60)) hx hb d_M_holds_22 (by decide) ?_
      refine lv_iload_n hx hb d_M_holds_24 rfl (lv_at hl 1 rfl) ?_
      refine lv_imul hx hb d_M_holds_25 ?_
      refine ea_ti (y := (nI (60 * ln))) (pk_mul _ _) ?_
      refine lv_iload_n hx hb d_M_holds_26 rfl (lv_at hl 3 rfl) ?_
      refine lv_iadd hx hb d_M_holds_27 ?_
      refine ea_ti (y := (nI (60 * ln + i))) (nI_add _ _) ?_
      refine ea_ild hx hb hK hP 1 0 rfl rfl (60 * ln + i) (rfl) (by omega) (by decide) (v := (nI (ns.getD i 0))) (hnu i (by omega)) d_M_holds_28 ?_
      refine lv_iload_n hx hb d_M_holds_29 rfl (lv_at hl 2 rfl) ?_
      refine lv_icmp_ne (tgt := 35) hx hb d_M_holds_30 (by decide) (fun c1 => ?_) (fun c1 => ?_)
      · refine lv_iinc (v := (nI (i + 1))) (lv' := [(3, .int ((nI (i + 1)))), (0, .ref ((q 0))), (1, .int ((nI ln))), (2, .int n)]) hx hb d_M_holds_35 hl (k := 3) rfl (nI_1 _) (by decide) rfl (fun ls hl => ?_)
        refine lv_goto (tgt := 2) hx hb d_M_holds_38 (by decide) ?_
        exact ih (i + 1) ls (by omega) (lt_s hno c1) (lv_sub hl [1, 2, 3, 0] rfl)
      · have hgm : ns.getD i 0 ∈ ns := by rw [ea_gd (show i < ns.length by omega)]; exact List.getElem_mem _
        refine lv_iconst (v := 1) hx hb d_M_holds_33 (by decide) ?_
        exact ea_retZ hx hb hr hlocks ((if_pos (List.mem_map.mpr ⟨ns.getD i 0, hperm.mem_iff.mp hgm, c1⟩)).symm) (by split <;> simp) d_M_holds_34
  refine lv_iconst (v := (nI 0)) hx hb d_M_holds_0 (by decide) ?_
  refine lv_istore_n (lv' := [(3, .int ((nI 0))), (0, .ref ((q 0))), (1, .int ((nI ln))), (2, .int n)]) hx hb d_M_holds_1 rfl hl (by decide) rfl (fun ls hl => ?_)
  exact loop ns.length 0 ls (by omega) (fun j hj => absurd hj (Nat.not_lt_zero j)) (lv_sub hl [1, 2, 3, 0] rfl)
set_option maxHeartbeats 4000000 in
set_option maxRecDepth 100000 in
theorem c_M_taken (l : Launch) (D : va_G) (q : Nat → Nat) (cI cJ : ClassId) (w : Nat) (hw : 4 ≤ w ∧ w ≤ 64) (σ : ea_S) (hok : ea_ok σ) (v : ea_MS) (hR : ea_RM σ v) (ln : Nat) (hln : ln < 4) (lo : Nat) (hlo : lo < 256) : Met l y_M_taken (.code y_M_taken b_M_taken 5 (some .int) :: ea_tb) (ea_rm 1) (va_Pc [.ref ((q 0)), .int ((nI ln)), .int ((nI lo))] (ea_B D (ea_ty cI cJ) (ea_wM q cI (nI w) v))) (QcRead (ea_I (ea_inf w (ea_tp (σ.1 ln)) lo))) 0 0 (fun _ => False) := by
  refine ea_start (by decide) (Nat.le_of_ble_eq_true rfl) ?_
  intro p e s m below meth c ls hx hb hr hlocks hml hown hts hnm hB hl
  have hown : s.vm.findClass R_M = some m.cls := hown
  obtain ⟨hP, hK⟩ := hB
  have hl : lv_has ls 5 [(0, .ref ((q 0))), (1, .int ((nI ln))), (2, .int ((nI lo)))] := hl
  have h15 := ea_tp15 (hok ln hln).1
  obtain ⟨dn, hdn⟩ : ∃ dn : Nat, dn = (((lo : Int) - (((ea_tp (σ.1 ln)) : Int) - (w : Int) + 1)) % 256).toNat := ⟨_, rfl⟩
  have loop : ∀ (g k : Nat) (ls : Array Slot), k + g = dn → lv_has ls 5 [(0, .ref ((q 0))), (1, .int ((nI ln))), (2, .int ((nI lo))), (3, .int ((ea_I (((ea_tp (σ.1 ln)) : Int) - (w : Int) + 1)))), (4, .int ((nI k)))] → W p l e (ea_rm 1) s m [.ref ((q 0)), .int ((nI ln)), .int ((nI lo))].toArray below meth c s.heap [] 0 0 (MQ below (QcRead (ea_I (ea_inf w (ea_tp (σ.1 ln)) lo))) [.ref ((q 0)), .int ((nI ln)), .int ((nI lo))].toArray s 0 0 (fun _ => False)) (F0 m 16 ls []) := by
    intro g
    induction g with
    | zero =>
      intro k ls hk hl
      refine lv_iload hx hb d_M_taken_16 (lv_at hl 4 rfl) ?_
      refine lv_sipush (v := (nI 256)) hx hb d_M_taken_18 (by decide) ?_
      refine lv_icmp_ge (tgt := 47) hx hb d_M_taken_21 (by decide) (fun c9 => absurd c9 (nI_ge (by omega) (by omega))) (fun _ => ?_)
      refine lv_iload_n hx hb d_M_taken_24 rfl (lv_at hl 3 rfl) ?_
      refine lv_iload hx hb d_M_taken_25 (lv_at hl 4 rfl) ?_
      refine lv_iadd hx hb d_M_taken_27 ?_
      refine ea_ti (y := (ea_I ((((ea_tp (σ.1 ln)) : Int) - (w : Int) + 1) + (k : Int)))) (by rw [ea_In]; exact ea_Iadd _ _) ?_
      refine lv_sipush (v := 255) hx hb d_M_taken_28 (by decide) ?_
      refine lv_iand hx hb d_M_taken_31 ?_
      refine ea_ti (y := (nI (((((ea_tp (σ.1 ln)) : Int) - (w : Int) + 1) + (k : Int)) % 256).toNat)) (ea_Iand _) ?_
      refine lv_iload_n hx hb d_M_taken_32 rfl (lv_at hl 2 rfl) ?_
      refine lv_icmp_ne (tgt := 41) hx hb d_M_taken_33 (by decide) (fun c9 => absurd (congrArg nI (by omega)) c9) (fun _ => ?_)
      refine lv_iload_n hx hb d_M_taken_36 rfl (lv_at hl 3 rfl) ?_
      refine lv_iload hx hb d_M_taken_37 (lv_at hl 4 rfl) ?_
      refine lv_iadd hx hb d_M_taken_39 ?_
      refine ea_ti (y := (ea_I ((((ea_tp (σ.1 ln)) : Int) - (w : Int) + 1) + (k : Int)))) (by rw [ea_In]; exact ea_Iadd _ _) ?_
      exact ea_retI hx hb hr hlocks (congrArg ea_I (by unfold ea_inf; omega)) d_M_taken_40
    | succ g ih =>
      intro k ls hk hl
      refine lv_iload hx hb d_M_taken_16 (lv_at hl 4 rfl) ?_
      refine lv_sipush (v := (nI 256)) hx hb d_M_taken_18 (by decide) ?_
      refine lv_icmp_ge (tgt := 47) hx hb d_M_taken_21 (by decide) (fun c9 => absurd c9 (nI_ge (by omega) (by omega))) (fun _ => ?_)
      refine lv_iload_n hx hb d_M_taken_24 rfl (lv_at hl 3 rfl) ?_
      refine lv_iload hx hb d_M_taken_25 (lv_at hl 4 rfl) ?_
      refine lv_iadd hx hb d_M_taken_27 ?_
      refine ea_ti (y := (ea_I ((((ea_tp (σ.1 ln)) : Int) - (w : Int) + 1) + (k : Int)))) (by rw [ea_In]; exact ea_Iadd _ _) ?_
      refine lv_sipush (v := 255) hx hb d_M_taken_28 (by decide) ?_
      refine lv_iand hx hb d_M_taken_31 ?_
      refine ea_ti (y := (nI (((((ea_tp (σ.1 ln)) : Int) - (w : Int) + 1) + (k : Int)) % 256).toNat)) (ea_Iand _) ?_
      refine lv_iload_n hx hb d_M_taken_32 rfl (lv_at hl 2 rfl) ?_
      refine lv_icmp_ne (tgt := 41) hx hb d_M_taken_33 (by decide) (fun _ => ?_) (fun c9 => absurd c9 (mt (nI_eq (by omega) (by omega)).mp (by omega)))
      refine lv_iinc (v := (nI (k + 1))) (lv' := [(4, .int ((nI (k + 1)))), (0, .ref ((q 0))), (1, .int ((nI ln))), (2, .int ((nI lo))), (3, .int ((ea_I (((ea_tp (σ.1 ln)) : Int) - (w : Int) + 1))))]) hx hb d_M_taken_41 hl (k := 4) rfl (nI_1 _) (by decide) rfl (fun ls hl => ?_)
      refine lv_goto (tgt := 16) hx hb d_M_taken_44 (by decide) ?_
      exact ih (k + 1) ls (by omega) (lv_sub hl [1, 2, 3, 4, 0] rfl)
  refine lv_aload_n hx hb d_M_taken_0 rfl (lv_at hl 0 rfl) ?_
  refine lv_iload_n hx hb d_M_taken_1 rfl (lv_at hl 1 rfl) ?_
  refine ea_callR (As := [.int ((nI ln))]) (rest := []) (r := (nI (ea_tp (σ.1 ln)))) ⟨hx, hb, hml, hown, hts⟩ hK hP rfl rfl (c_M_greatest l D q cI cJ w hw σ hok v hR ln hln) ⟨kl_M_29, kn_M_greatest, ks_M_greatest, ki_M, kc_M_greatest⟩ kd_M_greatest (by decide) ⟨Nat.le_of_ble_eq_true rfl, Nat.le_of_ble_eq_true rfl⟩ hl.1 rfl (Nat.le_of_ble_eq_true rfl) d_M_taken_2 ⟨Nat.le_of_ble_eq_true rfl, Nat.le_of_ble_eq_true rfl⟩ ?_
  refine lv_aload_n hx hb d_M_taken_5 rfl (lv_at hl 0 rfl) ?_
  refine va_get (ci := 1) (C := R_M) (T := F_M) (N := 6) hx hb hts i_M hown hK hP 0 rfl rfl 0 (by decide) (hts _ kf_M_window) (fun _ h => h) rfl d_M_taken_6 ?_
  refine lv_isub hx hb d_M_taken_9 ?_
  refine ea_ti (y := (ea_I (((ea_tp (σ.1 ln)) : Int) - (w : Int)))) (ea_sub) ?_
  refine lv_iconst (v := 1) hx hb d_M_taken_10 (by decide) ?_
  refine lv_iadd hx hb d_M_taken_11 ?_
  refine ea_ti (y := (ea_I (((ea_tp (σ.1 ln)) : Int) - (w : Int) + 1))) (ea_Iadd _ 1) ?_
  refine lv_istore_n (lv' := [(3, .int ((ea_I (((ea_tp (σ.1 ln)) : Int) - (w : Int) + 1)))), (0, .ref ((q 0))), (1, .int ((nI ln))), (2, .int ((nI lo)))]) hx hb d_M_taken_12 rfl hl (by decide) rfl (fun ls hl => ?_)
  refine lv_iconst (v := (nI 0)) hx hb d_M_taken_13 (by decide) ?_
  refine lv_istore (lv' := [(4, .int ((nI 0))), (3, .int ((ea_I (((ea_tp (σ.1 ln)) : Int) - (w : Int) + 1)))), (0, .ref ((q 0))), (1, .int ((nI ln))), (2, .int ((nI lo)))]) hx hb d_M_taken_14 hl (by decide) rfl (fun ls hl => ?_)
  exact loop dn 0 ls (by omega) (lv_sub hl [2, 3, 4, 1, 0] rfl)
set_option maxHeartbeats 4000000 in
set_option maxRecDepth 100000 in
theorem c_M_verdict (l : Launch) (D : va_G) (q : Nat → Nat) (hq : ea_ap 6 q) (cI cJ : ClassId) (w : Nat) (hw : 4 ≤ w ∧ w ≤ 64) (σ : ea_S) (hok : ea_ok σ) (v : ea_MS) (hR : ea_RM σ v) (ln : Nat) (hln : ln < 4) (lo : Nat) (hlo : lo < 256) (pr : Int32) : Met l y_M_verdict (.code y_M_verdict b_M_verdict 6 (some .int) :: ea_tb) (ea_rm 2) (va_Pc [.ref ((q 0)), .int ((nI ln)), .int ((nI lo)), .int pr] (ea_B D (ea_ty cI cJ) (ea_wM q cI (nI w) v))) (va_Qi (fun (r : Int32) (v' : ea_MS) => r = nI (ea_vd w σ ln lo (decide (pr ≠ 0))) ∧ ea_RM (if ea_vd w σ ln lo (decide (pr ≠ 0)) = 1 then ea_acc σ ln (ea_sn w σ ln lo) else σ) v') (fun v' t => ea_PM D q cI (nI w) v' t.heap) (ea_AX 6 q)) 0 0 (ea_AX 6 q) := by
  obtain ⟨nu, ma, sf, hd, vd⟩ := v
  refine ea_start (by decide) (Nat.le_of_ble_eq_true rfl) ?_
  intro p e s m below meth c ls hx hb hr hlocks hml hown hts hnm hB hl
  have hown : s.vm.findClass R_M = some m.cls := hown
  obtain ⟨hP, hK⟩ := hB
  have hl : lv_has ls 6 [(0, .ref ((q 0))), (1, .int ((nI ln))), (2, .int ((nI lo))), (3, .int pr)] := hl
  have hS : va_S (ea_AX 6 q) s.heap s.heap [] := va_S.rf
  have hD : va_D (ea_AX 6 q) (ea_wM q cI (nI w) (nu, ma, sf, hd, vd)) := ea_DM hq
  obtain ⟨⟨ns, hperm, hma, hnu⟩, hsf, hhd, hvd⟩ := hR ln hln
  have hzo := (hok ln hln).1
  have h15 := ea_tp15 hzo
  have hlen60 := hzo.2.2.1
  have hnl : ns.length = (σ.1 ln).length := hperm.length_eq
  have htp : ea_tp ns = ea_tp (σ.1 ln) := ea_tp_perm hperm
  have hn31 : ∀ i, i < ns.length → ns.getD i 0 < 2 ^ 31 := fun i hi => by have := ea_tp_le (show ns.getD i 0 ∈ ns by rw [ea_gd hi]; exact List.getElem_mem hi); omega
  have hib := ea_inf_b (w := w) (t := (ea_tp (σ.1 ln))) (low := lo) hw.2
  obtain ⟨-, ⟨hd1, hd60⟩, -⟩ := hok ln hln
  refine lv_aload_n hx hb d_M_verdict_0 rfl (lv_at hl 0 rfl) ?_
  refine va_get (ci := 1) (C := R_M) (T := F_M) (N := 6) hx hb hts i_M hown hK hP 0 rfl rfl 2 (by decide) (hts _ kf_M_many) (fun _ h => h) rfl d_M_verdict_1 ?_
  refine lv_iload_n hx hb d_M_verdict_4 rfl (lv_at hl 1 rfl) ?_
  refine ea_ild hx hb hK hP 2 0 rfl rfl (ln) (rfl) (hln) (by decide) (v := (nI ns.length)) (hma) d_M_verdict_5 ?_
  refine lv_aload_n hx hb d_M_verdict_6 rfl (lv_at hl 0 rfl) ?_
  refine va_get (ci := 1) (C := R_M) (T := F_M) (N := 6) hx hb hts i_M hown hK hP 0 rfl rfl 4 (by decide) (hts _ kf_M_hard) (fun _ h => h) rfl d_M_verdict_7 ?_
  refine lv_iload_n hx hb d_M_verdict_10 rfl (lv_at hl 1 rfl) ?_
  refine ea_ild hx hb hK hP 4 0 rfl rfl (ln) (rfl) (hln) (by decide) (v := (nI (σ.2.2.1 ln))) (hhd) d_M_verdict_11 ?_
  refine lv_icmp_lt (tgt := 17) hx hb d_M_verdict_12 (by decide) (fun c1 => ?_) (fun c1 => ?_)
  · have c1 := (nI_ltI (by omega) (by omega)).mp c1
    refine lv_aload_n hx hb d_M_verdict_17 rfl (lv_at hl 0 rfl) ?_
    refine lv_iload_n hx hb d_M_verdict_18 rfl (lv_at hl 1 rfl) ?_
    refine lv_iload_n hx hb d_M_verdict_19 rfl (lv_at hl 2 rfl) ?_
    refine ea_callR (As := [.int ((nI ln)), .int ((nI lo))]) (rest := []) (r := (ea_I (ea_inf w (ea_tp (σ.1 ln)) lo))) ⟨hx, hb, hml, hown, hts⟩ hK hP rfl rfl (c_M_taken l D q cI cJ w hw σ hok (nu, ma, sf, hd, vd) hR ln hln lo hlo) ⟨kl_M_33, kn_M_taken, ks_M_taken, ki_M, kc_M_taken⟩ kd_M_taken (by decide) ⟨Nat.le_of_ble_eq_true rfl, Nat.le_of_ble_eq_true rfl⟩ hl.1 rfl (Nat.le_of_ble_eq_true rfl) d_M_verdict_20 ⟨Nat.le_of_ble_eq_true rfl, Nat.le_of_ble_eq_true rfl⟩ ?_
    refine lv_istore (lv' := [(4, .int ((ea_I (ea_inf w (ea_tp (σ.1 ln)) lo)))), (0, .ref ((q 0))), (1, .int ((nI ln))), (2, .int ((nI lo))), (3, .int pr)]) hx hb d_M_verdict_23 hl (by decide) rfl (fun ls hl => ?_)
    refine lv_iload hx hb d_M_verdict_25 (lv_at hl 0 rfl) ?_
    refine lv_iconst (v := 1) hx hb d_M_verdict_27 (by decide) ?_
    refine lv_icmp_ge (tgt := 33) hx hb d_M_verdict_28 (by decide) (fun c2 => ?_) (fun c2 => ?_)
    · have c2 := (ea_le' 1 (ea_inf w (ea_tp (σ.1 ln)) lo) rfl rfl (by omega) (by omega)).mp c2
      have hsn : ((ea_sn w σ ln lo : Nat) : Int) = (ea_inf w (ea_tp (σ.1 ln)) lo) := by unfold ea_sn; exact Int.toNat_of_nonneg (by omega)
      have hmm : nI (ea_sn w σ ln lo) ∈ (σ.1 ln).map nI ↔ (ea_sn w σ ln lo) ∈ σ.1 ln := ea_mem_map (by omega) (fun y hy => by have := ea_tp_le hy; omega)
      refine lv_aload_n hx hb d_M_verdict_33 rfl (lv_at hl 1 rfl) ?_
      refine lv_iload_n hx hb d_M_verdict_34 rfl (lv_at hl 2 rfl) ?_
      refine lv_iload hx hb d_M_verdict_35 (lv_at hl 0 rfl) ?_
      refine ea_ti (y := (nI (ea_sn w σ ln lo))) (by rw [ea_In, hsn]) ?_
      refine ea_callR (As := [.int ((nI ln)), .int ((nI (ea_sn w σ ln lo)))]) (rest := []) (r := (if nI (ea_sn w σ ln lo) ∈ (σ.1 ln).map nI then 1 else 0)) ⟨hx, hb, hml, hown, hts⟩ hK hP rfl rfl (c_M_holds l D q cI cJ w hw σ hok (nu, ma, sf, hd, vd) hR ln hln (nI (ea_sn w σ ln lo))) ⟨kl_M_37, kn_M_holds, ks_M_holds, ki_M, kc_M_holds⟩ kd_M_holds (by decide) ⟨Nat.le_of_ble_eq_true rfl, Nat.le_of_ble_eq_true rfl⟩ hl.1 rfl (Nat.le_of_ble_eq_true rfl) d_M_verdict_37 ⟨Nat.le_of_ble_eq_true rfl, Nat.le_of_ble_eq_true rfl⟩ ?_
      refine lv_if_eq (tgt := 45) hx hb d_M_verdict_40 (by decide) (fun c3 => ?_) (fun c3 => ?_)
      · have c3 : (ea_sn w σ ln lo) ∉ σ.1 ln := by
          intro h
          rw [if_pos (hmm.mpr h)] at c3
          exact absurd c3 (by decide)
        refine lv_iload_n hx hb d_M_verdict_45 rfl (lv_at hl 4 rfl) ?_
        refine lv_if_ne (tgt := 51) hx hb d_M_verdict_46 (by decide) (fun c4 => ?_) (fun c4 => ?_)
        · have hvk : ea_vd w σ ln lo (decide (pr ≠ 0)) = 1 := by unfold ea_vd; rw [if_neg (by omega), if_neg (by omega), show (decide (pr ≠ 0)) = true by simp [c4]]; exact (if_neg c3).trans rfl
          refine lv_aload_n hx hb d_M_verdict_51 rfl (lv_at hl 1 rfl) ?_
          refine va_get (ci := 1) (C := R_M) (T := F_M) (N := 6) hx hb hts i_M hown hK hP 0 rfl rfl 2 (by decide) (hts _ kf_M_many) (fun _ h => h) rfl d_M_verdict_52 ?_
          refine lv_iload_n hx hb d_M_verdict_55 rfl (lv_at hl 2 rfl) ?_
          refine ea_ild hx hb hK hP 2 0 rfl rfl (ln) (rfl) (hln) (by decide) (v := (nI (σ.1 ln).length)) (hma.trans (congrArg nI hnl)) d_M_verdict_56 ?_
          refine lv_istore (lv' := [(5, .int ((nI (σ.1 ln).length))), (4, .int ((ea_I (ea_inf w (ea_tp (σ.1 ln)) lo)))), (0, .ref ((q 0))), (1, .int ((nI ln))), (2, .int ((nI lo))), (3, .int pr)]) hx hb d_M_verdict_57 hl (by decide) rfl (fun ls hl => ?_)
          refine lv_iload hx hb d_M_verdict_59 (lv_at hl 0 rfl) ?_
          refine lv_bipush (v := (nI 60)) hx hb d_M_verdict_61 (by decide) ?_
          refine lv_icmp_ge (tgt := 90) hx hb d_M_verdict_63 (by decide) (fun c9 => absurd c9 (nI_ge (by omega) (by omega))) (fun _ => ?_)
          refine lv_aload_n hx hb d_M_verdict_66 rfl (lv_at hl 2 rfl) ?_
          refine va_get (ci := 1) (C := R_M) (T := F_M) (N := 6) hx hb hts i_M hown hK hP 0 rfl rfl 1 (by decide) (hts _ kf_M_number) (fun _ h => h) rfl d_M_verdict_67 ?_
          refine lv_bipush (v := (nI 60)) hx hb d_M_verdict_70 (by decide) ?_
          refine lv_iload_n hx hb d_M_verdict_72 rfl (lv_at hl 3 rfl) ?_
          refine lv_imul hx hb d_M_verdict_73 ?_
          refine ea_ti (y := (nI (60 * ln))) (pk_mul _ _) ?_
          refine lv_iload hx hb d_M_verdict_74 (lv_at hl 0 rfl) ?_
          refine lv_iadd hx hb d_M_verdict_76 ?_
          refine ea_ti (y := (nI (60 * ln + (σ.1 ln).length))) (nI_add _ _) ?_
          refine lv_iload hx hb d_M_verdict_77 (lv_at hl 1 rfl) ?_
          refine ea_ti (y := (nI (ea_sn w σ ln lo))) (by rw [ea_In, hsn]) ?_
          refine ea_ist hx hb hK hP hD hS 1 0 rfl rfl (60 * ln + (σ.1 ln).length) (rfl) (by omega) (by decide) d_M_verdict_79 (fun nu1 H locs e1 hP hD hS => ?_)
          have hP : va_P D ea_cl (ea_wM q cI (nI w) (nu1, ma, sf, hd, vd)) H := hP
          have hD : va_D (ea_AX 6 q) (ea_wM q cI (nI w) (nu1, ma, sf, hd, vd)) := hD
          have e1 : nu1 = upd nu (60 * ln + (σ.1 ln).length) ((nI (ea_sn w σ ln lo))) := e1
          refine lv_aload_n hx hb d_M_verdict_80 rfl (lv_at hl 2 rfl) ?_
          refine va_get (ci := 1) (C := R_M) (T := F_M) (N := 6) hx hb hts i_M hown hK hP 0 rfl rfl 2 (by decide) (hts _ kf_M_many) (fun _ h => h) rfl d_M_verdict_81 ?_
          refine lv_iload_n hx hb d_M_verdict_84 rfl (lv_at hl 3 rfl) ?_
          refine lv_iload hx hb d_M_verdict_85 (lv_at hl 0 rfl) ?_
          refine lv_iconst (v := (nI 1)) hx hb d_M_verdict_87 (by decide) ?_
          refine lv_iadd hx hb d_M_verdict_88 ?_
          refine ea_ti (y := (nI ((σ.1 ln).length + 1))) (nI_add _ _) ?_
          refine ea_ist hx hb hK hP hD hS 2 0 rfl rfl (ln) (rfl) (hln) (by decide) d_M_verdict_89 (fun ma1 H locs e2 hP hD hS => ?_)
          have hP : va_P D ea_cl (ea_wM q cI (nI w) (nu1, ma1, sf, hd, vd)) H := hP
          have hD : va_D (ea_AX 6 q) (ea_wM q cI (nI w) (nu1, ma1, sf, hd, vd)) := hD
          have e2 : ma1 = upd ma (ln) ((nI ((σ.1 ln).length + 1))) := e2
          refine lv_iconst (v := (nI 1)) hx hb d_M_verdict_90 (by decide) ?_
          exact ea_retW ((nu1, ma1, sf, hd, vd)) hx hb hr hlocks hS (by rw [hvk]; exact ⟨rfl, ea_RM_acc hR hok hln (by omega) e1 e2⟩) (hP) d_M_verdict_91
        · have hvk : ea_vd w σ ln lo (decide (pr ≠ 0)) = 4 := by unfold ea_vd; rw [if_neg (by omega), if_neg (by omega), show (decide (pr ≠ 0)) = false by simp [c4]]; exact (if_neg c3).trans rfl
          refine lv_iconst (v := (nI 4)) hx hb d_M_verdict_49 (by decide) ?_
          exact ea_retW ((nu, ma, sf, hd, vd)) hx hb hr hlocks hS (by rw [hvk]; exact ⟨rfl, hR⟩) (hP) d_M_verdict_50
      · have c3 : (ea_sn w σ ln lo) ∈ σ.1 ln := by
          by_cases h : nI (ea_sn w σ ln lo) ∈ (σ.1 ln).map nI
          · exact hmm.mp h
          · exact absurd (if_neg h) c3
        have hvk : ea_vd w σ ln lo (decide (pr ≠ 0)) = 2 := by unfold ea_vd; rw [if_neg (by omega), if_neg (by omega)]; exact if_pos c3
        refine lv_iconst (v := (nI 2)) hx hb d_M_verdict_43 (by decide) ?_
        exact ea_retW ((nu, ma, sf, hd, vd)) hx hb hr hlocks hS (by rw [hvk]; exact ⟨rfl, hR⟩) (hP) d_M_verdict_44
    · have c2 := mt (ea_le' 1 (ea_inf w (ea_tp (σ.1 ln)) lo) rfl rfl (by omega) (by omega)).mpr c2
      have hvk : ea_vd w σ ln lo (decide (pr ≠ 0)) = 3 := by unfold ea_vd; rw [if_neg (by omega), if_pos (by omega)]
      refine lv_iconst (v := (nI 3)) hx hb d_M_verdict_31 (by decide) ?_
      exact ea_retW ((nu, ma, sf, hd, vd)) hx hb hr hlocks hS (by rw [hvk]; exact ⟨rfl, hR⟩) (hP) d_M_verdict_32
  · have c1 := mt (nI_ltI (by omega) (by omega)).mpr c1
    have hvk : ea_vd w σ ln lo (decide (pr ≠ 0)) = 5 := if_pos (by omega)
    refine lv_iconst (v := (nI 5)) hx hb d_M_verdict_15 (by decide) ?_
    exact ea_retW ((nu, ma, sf, hd, vd)) hx hb hr hlocks hS (by rw [hvk]; exact ⟨rfl, hR⟩) (hP) d_M_verdict_16
end
section
theorem ea_cw_s {w : Nat} {zs : List Nat} {k : Nat} (h : ea_bit w zs k = true) : ea_cw w zs (k + 1) = ea_cw w zs k + 1 := by
  simp only [ea_cw, h, if_true]
theorem ea_cw_n {w : Nat} {zs : List Nat} {k : Nat} (h : ¬ ea_bit w zs k = true) : ea_cw w zs (k + 1) = ea_cw w zs k := by
  have h2 : ea_bit w zs k = false := by
    cases hb : ea_bit w zs k
    · rfl
    · exact absurd hb h
  simp [ea_cw, h2]
theorem ea_cw_le (w : Nat) (zs : List Nat) : ∀ k, ea_cw w zs k ≤ k := by
  intro k
  induction k with
  | zero => exact Nat.le_refl _
  | succ k ih =>
    simp only [ea_cw]
    split <;> omega
/-- a number at or below the top, asked of the numbers as ints -/
theorem ea_mem_I {zs : List Nat} (hz : ea_okL zs) {g : Nat} (hg : g ≤ 64) : ea_I ((ea_tp zs : Int) - (g : Int)) ∈ zs.map nI ↔ ea_tp zs - g ∈ zs := by
  have h15 := ea_tp15 hz
  by_cases h : g ≤ ea_tp zs
  · rw [show ea_I ((ea_tp zs : Int) - (g : Int)) = nI (ea_tp zs - g) by rw [ea_In]; exact congrArg ea_I (by omega)]
    exact ea_mem_map (by omega) (fun y hy => by have := ea_tp_le hy; omega)
  · constructor
    · intro hm
      obtain ⟨y, hy, he⟩ := List.mem_map.mp hm
      have h1 := hz.2.1 y hy
      have h2 := ea_tp_le hy
      rw [ea_In] at he
      exact absurd ((ea_Ieq (by omega) (by omega)).mp he) (by omega)
    · intro hm
      rw [show ea_tp zs - g = 0 by omega] at hm
      exact absurd hm (ea_no0 hz)
theorem ea_dec1 (a : Int32) (c : Nat) : (a - nI c) + Int32.ofInt (-1) = a - nI (c + 1) := by
  rw [show Int32.ofInt (-1) = -1 from by decide, ← nI_1, Int32.sub_eq_add_neg, Int32.sub_eq_add_neg, Int32.neg_add, Int32.add_assoc, Int32.sub_eq_add_neg]
theorem ea_cnt_take {ns : List Nat} {i : Nat} (p : Nat → Bool) (h : i < ns.length) : (ns.take (i + 1)).countP p = (ns.take i).countP p + (if p (ns.getD i 0) then 1 else 0) := by
  rw [ea_take h, List.countP_append]
  simp [List.countP_cons]
set_option maxHeartbeats 4000000 in
set_option maxRecDepth 100000 in
theorem c_M_window (l : Launch) (D : va_G) (q : Nat → Nat) (cI cJ : ClassId) (w : Nat) (v : ea_MS) : Met l y_M_window (.code y_M_window b_M_window 1 (some .int) :: ea_tb) (ea_rm 0) (va_Pc [.ref ((q 0))] (ea_B D (ea_ty cI cJ) (ea_wM q cI (nI w) v))) (QcRead (nI w)) 0 0 (fun _ => False) := by
  refine ea_start (by decide) (Nat.le_of_ble_eq_true rfl) ?_
  intro p e s m below meth c ls hx hb hr hlocks hml hown hts hnm hB hl
  have hown : s.vm.findClass R_M = some m.cls := hown
  obtain ⟨hP, hK⟩ := hB
  have hl : lv_has ls 1 [(0, .ref ((q 0)))] := hl
  refine lv_aload_n hx hb d_M_window_0 rfl (lv_at hl 0 rfl) ?_
  refine va_get (ci := 1) (C := R_M) (T := F_M) (N := 6) hx hb hts i_M hown hK hP 0 rfl rfl 0 (by decide) (hts _ kf_M_window) (fun _ h => h) rfl d_M_window_1 ?_
  exact ea_retI hx hb hr hlocks (rfl) d_M_window_4
set_option maxHeartbeats 4000000 in
set_option maxRecDepth 100000 in
theorem c_M_top (l : Launch) (D : va_G) (q : Nat → Nat) (cI cJ : ClassId) (w : Nat) (hw : 4 ≤ w ∧ w ≤ 64) (σ : ea_S) (hok : ea_ok σ) (v : ea_MS) (hR : ea_RM σ v) (x : Int32) : Met l y_M_top (.code y_M_top b_M_top 2 (some .int) :: ea_tb) (ea_rm 1) (va_Pc [.ref ((q 0)), .int x] (ea_B D (ea_ty cI cJ) (ea_wM q cI (nI w) v))) (QcRead (sp_top σ x)) 0 0 (fun _ => False) := by
  by_cases hL : ea_isL x
  · obtain ⟨ln, hln, rfl, hnx⟩ := ea_isL_n hL
    rw [show sp_top σ (nI ln) = nI (ea_tp (σ.1 ln)) by unfold sp_top; rw [if_pos hL, hnx]]
    refine ea_start (by decide) (Nat.le_of_ble_eq_true rfl) ?_
    intro p e s m below meth c ls hx hb hr hlocks hml hown hts hnm hB hl
    have hown : s.vm.findClass R_M = some m.cls := hown
    obtain ⟨hP, hK⟩ := hB
    have hl : lv_has ls 2 [(0, .ref ((q 0))), (1, .int ((nI ln)))] := hl
    obtain ⟨⟨ns, hperm, hma, hnu⟩, hsf, hhd, hvd⟩ := hR ln hln
    have hzo := (hok ln hln).1
    have h15 := ea_tp15 hzo
    have hlen60 := hzo.2.2.1
    have hnl : ns.length = (σ.1 ln).length := hperm.length_eq
    have htp : ea_tp ns = ea_tp (σ.1 ln) := ea_tp_perm hperm
    have hn31 : ∀ i, i < ns.length → ns.getD i 0 < 2 ^ 31 := fun i hi => by have := ea_tp_le (show ns.getD i 0 ∈ ns by rw [ea_gd hi]; exact List.getElem_mem hi); omega
    refine lv_aload_n hx hb d_M_top_0 rfl (lv_at hl 0 rfl) ?_
    refine lv_iload_n hx hb d_M_top_1 rfl (lv_at hl 1 rfl) ?_
    refine ea_callR (As := [.int ((nI ln))]) (rest := []) (r := 0) ⟨hx, hb, hml, hown, hts⟩ hK hP rfl rfl (c_M_bad0 l D q cI cJ w v hL) ⟨kl_M_41, kn_M_bad, ks_M_bad, ki_M, kc_M_bad⟩ kd_M_bad (by decide) ⟨Nat.le_of_ble_eq_true rfl, Nat.le_of_ble_eq_true rfl⟩ hl.1 rfl (Nat.le_of_ble_eq_true rfl) d_M_top_2 ⟨Nat.le_of_ble_eq_true rfl, Nat.le_of_ble_eq_true rfl⟩ ?_
    refine lv_if_eq (tgt := 12) hx hb d_M_top_5 (by decide) (fun _ => ?_) (fun c9 => absurd (rfl) c9)
    refine lv_aload_n hx hb d_M_top_12 rfl (lv_at hl 0 rfl) ?_
    refine lv_iload_n hx hb d_M_top_13 rfl (lv_at hl 1 rfl) ?_
    refine ea_callR (As := [.int ((nI ln))]) (rest := []) (r := (nI (ea_tp (σ.1 ln)))) ⟨hx, hb, hml, hown, hts⟩ hK hP rfl rfl (c_M_greatest l D q cI cJ w hw σ hok v hR ln hln) ⟨kl_M_29, kn_M_greatest, ks_M_greatest, ki_M, kc_M_greatest⟩ kd_M_greatest (by decide) ⟨Nat.le_of_ble_eq_true rfl, Nat.le_of_ble_eq_true rfl⟩ hl.1 rfl (Nat.le_of_ble_eq_true rfl) d_M_top_14 ⟨Nat.le_of_ble_eq_true rfl, Nat.le_of_ble_eq_true rfl⟩ ?_
    exact ea_retI hx hb hr hlocks (rfl) d_M_top_17
  · rw [show sp_top σ x = -1 by unfold sp_top; rw [if_neg hL]]
    refine ea_start (by decide) (Nat.le_of_ble_eq_true rfl) ?_
    intro p e s m below meth c ls hx hb hr hlocks hml hown hts hnm hB hl
    have hown : s.vm.findClass R_M = some m.cls := hown
    obtain ⟨hP, hK⟩ := hB
    have hl : lv_has ls 2 [(0, .ref ((q 0))), (1, .int x)] := hl
    refine lv_aload_n hx hb d_M_top_0 rfl (lv_at hl 0 rfl) ?_
    refine lv_iload_n hx hb d_M_top_1 rfl (lv_at hl 1 rfl) ?_
    refine ea_callR (As := [.int x]) (rest := []) (r := 1) ⟨hx, hb, hml, hown, hts⟩ hK hP rfl rfl (c_M_bad1 l D q cI cJ w v hL) ⟨kl_M_41, kn_M_bad, ks_M_bad, ki_M, kc_M_bad⟩ kd_M_bad (by decide) ⟨Nat.le_of_ble_eq_true rfl, Nat.le_of_ble_eq_true rfl⟩ hl.1 rfl (Nat.le_of_ble_eq_true rfl) d_M_top_2 ⟨Nat.le_of_ble_eq_true rfl, Nat.le_of_ble_eq_true rfl⟩ ?_
    refine lv_if_eq (tgt := 12) hx hb d_M_top_5 (by decide) (fun c9 => absurd c9 (by decide)) (fun _ => ?_)
    refine lv_iconst (v := (-1)) hx hb d_M_top_8 (by decide) ?_
    refine lv_goto (tgt := 17) hx hb d_M_top_9 (by decide) ?_
    exact ea_retI hx hb hr hlocks (rfl) d_M_top_17
set_option maxHeartbeats 4000000 in
set_option maxRecDepth 100000 in
theorem c_M_accepted (l : Launch) (D : va_G) (q : Nat → Nat) (cI cJ : ClassId) (w : Nat) (hw : 4 ≤ w ∧ w ≤ 64) (σ : ea_S) (hok : ea_ok σ) (v : ea_MS) (hR : ea_RM σ v) (x : Int32) : Met l y_M_accepted (.code y_M_accepted b_M_accepted 2 (some .int) :: ea_tb) (ea_rm 1) (va_Pc [.ref ((q 0)), .int x] (ea_B D (ea_ty cI cJ) (ea_wM q cI (nI w) v))) (QcRead (sp_accepted σ x)) 0 0 (fun _ => False) := by
  by_cases hL : ea_isL x
  · obtain ⟨ln, hln, rfl, hnx⟩ := ea_isL_n hL
    rw [show sp_accepted σ (nI ln) = nI (σ.1 ln).length by unfold sp_accepted; rw [if_pos hL, hnx]]
    refine ea_start (by decide) (Nat.le_of_ble_eq_true rfl) ?_
    intro p e s m below meth c ls hx hb hr hlocks hml hown hts hnm hB hl
    have hown : s.vm.findClass R_M = some m.cls := hown
    obtain ⟨hP, hK⟩ := hB
    have hl : lv_has ls 2 [(0, .ref ((q 0))), (1, .int ((nI ln)))] := hl
    obtain ⟨⟨ns, hperm, hma, hnu⟩, hsf, hhd, hvd⟩ := hR ln hln
    have hzo := (hok ln hln).1
    have h15 := ea_tp15 hzo
    have hlen60 := hzo.2.2.1
    have hnl : ns.length = (σ.1 ln).length := hperm.length_eq
    have htp : ea_tp ns = ea_tp (σ.1 ln) := ea_tp_perm hperm
    have hn31 : ∀ i, i < ns.length → ns.getD i 0 < 2 ^ 31 := fun i hi => by have := ea_tp_le (show ns.getD i 0 ∈ ns by rw [ea_gd hi]; exact List.getElem_mem hi); omega
    refine lv_aload_n hx hb d_M_accepted_0 rfl (lv_at hl 0 rfl) ?_
    refine lv_iload_n hx hb d_M_accepted_1 rfl (lv_at hl 1 rfl) ?_
    refine ea_callR (As := [.int ((nI ln))]) (rest := []) (r := 0) ⟨hx, hb, hml, hown, hts⟩ hK hP rfl rfl (c_M_bad0 l D q cI cJ w v hL) ⟨kl_M_41, kn_M_bad, ks_M_bad, ki_M, kc_M_bad⟩ kd_M_bad (by decide) ⟨Nat.le_of_ble_eq_true rfl, Nat.le_of_ble_eq_true rfl⟩ hl.1 rfl (Nat.le_of_ble_eq_true rfl) d_M_accepted_2 ⟨Nat.le_of_ble_eq_true rfl, Nat.le_of_ble_eq_true rfl⟩ ?_
    refine lv_if_eq (tgt := 12) hx hb d_M_accepted_5 (by decide) (fun _ => ?_) (fun c9 => absurd (rfl) c9)
    refine lv_aload_n hx hb d_M_accepted_12 rfl (lv_at hl 0 rfl) ?_
    refine va_get (ci := 1) (C := R_M) (T := F_M) (N := 6) hx hb hts i_M hown hK hP 0 rfl rfl 2 (by decide) (hts _ kf_M_many) (fun _ h => h) rfl d_M_accepted_13 ?_
    refine lv_iload_n hx hb d_M_accepted_16 rfl (lv_at hl 1 rfl) ?_
    refine ea_ild hx hb hK hP 2 0 rfl rfl (ln) (rfl) (hln) (by decide) (v := (nI (σ.1 ln).length)) (hma.trans (congrArg nI hnl)) d_M_accepted_17 ?_
    exact ea_retI hx hb hr hlocks (rfl) d_M_accepted_18
  · rw [show sp_accepted σ x = -1 by unfold sp_accepted; rw [if_neg hL]]
    refine ea_start (by decide) (Nat.le_of_ble_eq_true rfl) ?_
    intro p e s m below meth c ls hx hb hr hlocks hml hown hts hnm hB hl
    have hown : s.vm.findClass R_M = some m.cls := hown
    obtain ⟨hP, hK⟩ := hB
    have hl : lv_has ls 2 [(0, .ref ((q 0))), (1, .int x)] := hl
    refine lv_aload_n hx hb d_M_accepted_0 rfl (lv_at hl 0 rfl) ?_
    refine lv_iload_n hx hb d_M_accepted_1 rfl (lv_at hl 1 rfl) ?_
    refine ea_callR (As := [.int x]) (rest := []) (r := 1) ⟨hx, hb, hml, hown, hts⟩ hK hP rfl rfl (c_M_bad1 l D q cI cJ w v hL) ⟨kl_M_41, kn_M_bad, ks_M_bad, ki_M, kc_M_bad⟩ kd_M_bad (by decide) ⟨Nat.le_of_ble_eq_true rfl, Nat.le_of_ble_eq_true rfl⟩ hl.1 rfl (Nat.le_of_ble_eq_true rfl) d_M_accepted_2 ⟨Nat.le_of_ble_eq_true rfl, Nat.le_of_ble_eq_true rfl⟩ ?_
    refine lv_if_eq (tgt := 12) hx hb d_M_accepted_5 (by decide) (fun c9 => absurd c9 (by decide)) (fun _ => ?_)
    refine lv_iconst (v := (-1)) hx hb d_M_accepted_8 (by decide) ?_
    refine lv_goto (tgt := 18) hx hb d_M_accepted_9 (by decide) ?_
    exact ea_retI hx hb hr hlocks (rfl) d_M_accepted_18
set_option maxHeartbeats 4000000 in
set_option maxRecDepth 100000 in
theorem c_M_dead (l : Launch) (D : va_G) (q : Nat → Nat) (cI cJ : ClassId) (w : Nat) (hw : 4 ≤ w ∧ w ≤ 64) (σ : ea_S) (hok : ea_ok σ) (v : ea_MS) (hR : ea_RM σ v) (x : Int32) : Met l y_M_dead (.code y_M_dead b_M_dead 2 (some .int) :: ea_tb) (ea_rm 1) (va_Pc [.ref ((q 0)), .int x] (ea_B D (ea_ty cI cJ) (ea_wM q cI (nI w) v))) (QcRead (sp_dead σ x)) 0 0 (fun _ => False) := by
  by_cases hL : ea_isL x
  · obtain ⟨ln, hln, rfl, hnx⟩ := ea_isL_n hL
    rw [show sp_dead σ (nI ln) = if σ.2.2.1 ln ≤ (σ.1 ln).length then 1 else 0 by unfold sp_dead; rw [if_pos hL, hnx]]
    refine ea_start (by decide) (Nat.le_of_ble_eq_true rfl) ?_
    intro p e s m below meth c ls hx hb hr hlocks hml hown hts hnm hB hl
    have hown : s.vm.findClass R_M = some m.cls := hown
    obtain ⟨hP, hK⟩ := hB
    have hl : lv_has ls 2 [(0, .ref ((q 0))), (1, .int ((nI ln)))] := hl
    obtain ⟨⟨ns, hperm, hma, hnu⟩, hsf, hhd, hvd⟩ := hR ln hln
    have hzo := (hok ln hln).1
    have h15 := ea_tp15 hzo
    have hlen60 := hzo.2.2.1
    have hnl : ns.length = (σ.1 ln).length := hperm.length_eq
    have htp : ea_tp ns = ea_tp (σ.1 ln) := ea_tp_perm hperm
    have hn31 : ∀ i, i < ns.length → ns.getD i 0 < 2 ^ 31 := fun i hi => by have := ea_tp_le (show ns.getD i 0 ∈ ns by rw [ea_gd hi]; exact List.getElem_mem hi); omega
    obtain ⟨-, ⟨hd1, hd60⟩, hs60⟩ := hok ln hln
    refine lv_aload_n hx hb d_M_dead_0 rfl (lv_at hl 0 rfl) ?_
    refine lv_iload_n hx hb d_M_dead_1 rfl (lv_at hl 1 rfl) ?_
    refine ea_callR (As := [.int ((nI ln))]) (rest := []) (r := 0) ⟨hx, hb, hml, hown, hts⟩ hK hP rfl rfl (c_M_bad0 l D q cI cJ w v hL) ⟨kl_M_41, kn_M_bad, ks_M_bad, ki_M, kc_M_bad⟩ kd_M_bad (by decide) ⟨Nat.le_of_ble_eq_true rfl, Nat.le_of_ble_eq_true rfl⟩ hl.1 rfl (Nat.le_of_ble_eq_true rfl) d_M_dead_2 ⟨Nat.le_of_ble_eq_true rfl, Nat.le_of_ble_eq_true rfl⟩ ?_
    refine lv_if_eq (tgt := 10) hx hb d_M_dead_5 (by decide) (fun _ => ?_) (fun c9 => absurd (rfl) c9)
    refine lv_aload_n hx hb d_M_dead_10 rfl (lv_at hl 0 rfl) ?_
    refine va_get (ci := 1) (C := R_M) (T := F_M) (N := 6) hx hb hts i_M hown hK hP 0 rfl rfl 2 (by decide) (hts _ kf_M_many) (fun _ h => h) rfl d_M_dead_11 ?_
    refine lv_iload_n hx hb d_M_dead_14 rfl (lv_at hl 1 rfl) ?_
    refine ea_ild hx hb hK hP 2 0 rfl rfl (ln) (rfl) (hln) (by decide) (v := (nI (σ.1 ln).length)) (hma.trans (congrArg nI hnl)) d_M_dead_15 ?_
    refine lv_aload_n hx hb d_M_dead_16 rfl (lv_at hl 0 rfl) ?_
    refine va_get (ci := 1) (C := R_M) (T := F_M) (N := 6) hx hb hts i_M hown hK hP 0 rfl rfl 4 (by decide) (hts _ kf_M_hard) (fun _ h => h) rfl d_M_dead_17 ?_
    refine lv_iload_n hx hb d_M_dead_20 rfl (lv_at hl 1 rfl) ?_
    refine ea_ild hx hb hK hP 4 0 rfl rfl (ln) (rfl) (hln) (by decide) (v := (nI (σ.2.2.1 ln))) (hhd) d_M_dead_21 ?_
    refine lv_icmp_lt (tgt := 29) hx hb d_M_dead_22 (by decide) (fun c1 => ?_) (fun c1 => ?_)
    · have c1 := (nI_ltI (by omega) (by omega)).mp c1
      refine lv_iconst (v := 0) hx hb d_M_dead_29 (by decide) ?_
      exact ea_retI hx hb hr hlocks ((if_neg (by omega)).symm) d_M_dead_30
    · have c1 := mt (nI_ltI (by omega) (by omega)).mpr c1
      refine lv_iconst (v := 1) hx hb d_M_dead_25 (by decide) ?_
      refine lv_goto (tgt := 30) hx hb d_M_dead_26 (by decide) ?_
      exact ea_retI hx hb hr hlocks ((if_pos (by omega)).symm) d_M_dead_30
  · rw [show sp_dead σ x = -1 by unfold sp_dead; rw [if_neg hL]]
    refine ea_start (by decide) (Nat.le_of_ble_eq_true rfl) ?_
    intro p e s m below meth c ls hx hb hr hlocks hml hown hts hnm hB hl
    have hown : s.vm.findClass R_M = some m.cls := hown
    obtain ⟨hP, hK⟩ := hB
    have hl : lv_has ls 2 [(0, .ref ((q 0))), (1, .int x)] := hl
    refine lv_aload_n hx hb d_M_dead_0 rfl (lv_at hl 0 rfl) ?_
    refine lv_iload_n hx hb d_M_dead_1 rfl (lv_at hl 1 rfl) ?_
    refine ea_callR (As := [.int x]) (rest := []) (r := 1) ⟨hx, hb, hml, hown, hts⟩ hK hP rfl rfl (c_M_bad1 l D q cI cJ w v hL) ⟨kl_M_41, kn_M_bad, ks_M_bad, ki_M, kc_M_bad⟩ kd_M_bad (by decide) ⟨Nat.le_of_ble_eq_true rfl, Nat.le_of_ble_eq_true rfl⟩ hl.1 rfl (Nat.le_of_ble_eq_true rfl) d_M_dead_2 ⟨Nat.le_of_ble_eq_true rfl, Nat.le_of_ble_eq_true rfl⟩ ?_
    refine lv_if_eq (tgt := 10) hx hb d_M_dead_5 (by decide) (fun c9 => absurd c9 (by decide)) (fun _ => ?_)
    refine lv_iconst (v := (-1)) hx hb d_M_dead_8 (by decide) ?_
    exact ea_retI hx hb hr hlocks (rfl) d_M_dead_9
set_option maxHeartbeats 4000000 in
set_option maxRecDepth 100000 in
theorem c_M_aging (l : Launch) (D : va_G) (q : Nat → Nat) (cI cJ : ClassId) (w : Nat) (hw : 4 ≤ w ∧ w ≤ 64) (σ : ea_S) (hok : ea_ok σ) (v : ea_MS) (hR : ea_RM σ v) (x : Int32) : Met l y_M_aging (.code y_M_aging b_M_aging 2 (some .int) :: ea_tb) (ea_rm 1) (va_Pc [.ref ((q 0)), .int x] (ea_B D (ea_ty cI cJ) (ea_wM q cI (nI w) v))) (QcRead (sp_aging σ x)) 0 0 (fun _ => False) := by
  by_cases hL : ea_isL x
  · obtain ⟨ln, hln, rfl, hnx⟩ := ea_isL_n hL
    rw [show sp_aging σ (nI ln) = if σ.2.1 ln ≤ (σ.1 ln).length then 1 else 0 by unfold sp_aging; rw [if_pos hL, hnx]]
    refine ea_start (by decide) (Nat.le_of_ble_eq_true rfl) ?_
    intro p e s m below meth c ls hx hb hr hlocks hml hown hts hnm hB hl
    have hown : s.vm.findClass R_M = some m.cls := hown
    obtain ⟨hP, hK⟩ := hB
    have hl : lv_has ls 2 [(0, .ref ((q 0))), (1, .int ((nI ln)))] := hl
    obtain ⟨⟨ns, hperm, hma, hnu⟩, hsf, hhd, hvd⟩ := hR ln hln
    have hzo := (hok ln hln).1
    have h15 := ea_tp15 hzo
    have hlen60 := hzo.2.2.1
    have hnl : ns.length = (σ.1 ln).length := hperm.length_eq
    have htp : ea_tp ns = ea_tp (σ.1 ln) := ea_tp_perm hperm
    have hn31 : ∀ i, i < ns.length → ns.getD i 0 < 2 ^ 31 := fun i hi => by have := ea_tp_le (show ns.getD i 0 ∈ ns by rw [ea_gd hi]; exact List.getElem_mem hi); omega
    obtain ⟨-, ⟨hd1, hd60⟩, hs60⟩ := hok ln hln
    refine lv_aload_n hx hb d_M_aging_0 rfl (lv_at hl 0 rfl) ?_
    refine lv_iload_n hx hb d_M_aging_1 rfl (lv_at hl 1 rfl) ?_
    refine ea_callR (As := [.int ((nI ln))]) (rest := []) (r := 0) ⟨hx, hb, hml, hown, hts⟩ hK hP rfl rfl (c_M_bad0 l D q cI cJ w v hL) ⟨kl_M_41, kn_M_bad, ks_M_bad, ki_M, kc_M_bad⟩ kd_M_bad (by decide) ⟨Nat.le_of_ble_eq_true rfl, Nat.le_of_ble_eq_true rfl⟩ hl.1 rfl (Nat.le_of_ble_eq_true rfl) d_M_aging_2 ⟨Nat.le_of_ble_eq_true rfl, Nat.le_of_ble_eq_true rfl⟩ ?_
    refine lv_if_eq (tgt := 10) hx hb d_M_aging_5 (by decide) (fun _ => ?_) (fun c9 => absurd (rfl) c9)
    refine lv_aload_n hx hb d_M_aging_10 rfl (lv_at hl 0 rfl) ?_
    refine va_get (ci := 1) (C := R_M) (T := F_M) (N := 6) hx hb hts i_M hown hK hP 0 rfl rfl 2 (by decide) (hts _ kf_M_many) (fun _ h => h) rfl d_M_aging_11 ?_
    refine lv_iload_n hx hb d_M_aging_14 rfl (lv_at hl 1 rfl) ?_
    refine ea_ild hx hb hK hP 2 0 rfl rfl (ln) (rfl) (hln) (by decide) (v := (nI (σ.1 ln).length)) (hma.trans (congrArg nI hnl)) d_M_aging_15 ?_
    refine lv_aload_n hx hb d_M_aging_16 rfl (lv_at hl 0 rfl) ?_
    refine va_get (ci := 1) (C := R_M) (T := F_M) (N := 6) hx hb hts i_M hown hK hP 0 rfl rfl 3 (by decide) (hts _ kf_M_soft) (fun _ h => h) rfl d_M_aging_17 ?_
    refine lv_iload_n hx hb d_M_aging_20 rfl (lv_at hl 1 rfl) ?_
    refine ea_ild hx hb hK hP 3 0 rfl rfl (ln) (rfl) (hln) (by decide) (v := (nI (σ.2.1 ln))) (hsf) d_M_aging_21 ?_
    refine lv_icmp_lt (tgt := 29) hx hb d_M_aging_22 (by decide) (fun c1 => ?_) (fun c1 => ?_)
    · have c1 := (nI_ltI (by omega) (by omega)).mp c1
      refine lv_iconst (v := 0) hx hb d_M_aging_29 (by decide) ?_
      exact ea_retI hx hb hr hlocks ((if_neg (by omega)).symm) d_M_aging_30
    · have c1 := mt (nI_ltI (by omega) (by omega)).mpr c1
      refine lv_iconst (v := 1) hx hb d_M_aging_25 (by decide) ?_
      refine lv_goto (tgt := 30) hx hb d_M_aging_26 (by decide) ?_
      exact ea_retI hx hb hr hlocks ((if_pos (by omega)).symm) d_M_aging_30
  · rw [show sp_aging σ x = -1 by unfold sp_aging; rw [if_neg hL]]
    refine ea_start (by decide) (Nat.le_of_ble_eq_true rfl) ?_
    intro p e s m below meth c ls hx hb hr hlocks hml hown hts hnm hB hl
    have hown : s.vm.findClass R_M = some m.cls := hown
    obtain ⟨hP, hK⟩ := hB
    have hl : lv_has ls 2 [(0, .ref ((q 0))), (1, .int x)] := hl
    refine lv_aload_n hx hb d_M_aging_0 rfl (lv_at hl 0 rfl) ?_
    refine lv_iload_n hx hb d_M_aging_1 rfl (lv_at hl 1 rfl) ?_
    refine ea_callR (As := [.int x]) (rest := []) (r := 1) ⟨hx, hb, hml, hown, hts⟩ hK hP rfl rfl (c_M_bad1 l D q cI cJ w v hL) ⟨kl_M_41, kn_M_bad, ks_M_bad, ki_M, kc_M_bad⟩ kd_M_bad (by decide) ⟨Nat.le_of_ble_eq_true rfl, Nat.le_of_ble_eq_true rfl⟩ hl.1 rfl (Nat.le_of_ble_eq_true rfl) d_M_aging_2 ⟨Nat.le_of_ble_eq_true rfl, Nat.le_of_ble_eq_true rfl⟩ ?_
    refine lv_if_eq (tgt := 10) hx hb d_M_aging_5 (by decide) (fun c9 => absurd c9 (by decide)) (fun _ => ?_)
    refine lv_iconst (v := (-1)) hx hb d_M_aging_8 (by decide) ?_
    exact ea_retI hx hb hr hlocks (rfl) d_M_aging_9
set_option maxHeartbeats 4000000 in
set_option maxRecDepth 100000 in
theorem c_M_count (l : Launch) (D : va_G) (q : Nat → Nat) (cI cJ : ClassId) (w : Nat) (hw : 4 ≤ w ∧ w ≤ 64) (σ : ea_S) (hok : ea_ok σ) (v : ea_MS) (hR : ea_RM σ v) (x y : Int32) : Met l y_M_count (.code y_M_count b_M_count 3 (some .int) :: ea_tb) (ea_rm 1) (va_Pc [.ref ((q 0)), .int x, .int y] (ea_B D (ea_ty cI cJ) (ea_wM q cI (nI w) v))) (QcRead (sp_count σ x y)) 0 0 (fun _ => False) := by
  by_cases hL : ea_isL x
  · obtain ⟨ln, hln, rfl, hnx⟩ := ea_isL_n hL
    by_cases hv1 : 1 ≤ y
    · by_cases hv2 : y ≤ 5
      · obtain ⟨k, hk5, rfl⟩ := nI_of2 (x := y) (M := 5) (n := 5) (by decide) (fun h => absurd (Int32.lt_of_le_of_lt hv1 h) (by decide)) hv2
        have hk1 : 1 ≤ k := (nI_leI (by omega) (by omega)).mp hv1
        rw [show sp_count σ (nI ln) (nI k) = σ.2.2.2 ln k by unfold sp_count; rw [if_pos hL, if_pos ⟨hv1, hv2⟩, hnx, show ea_n (nI k) = k from nI_clamp (by omega)]]
        refine ea_start (by decide) (Nat.le_of_ble_eq_true rfl) ?_
        intro p e s m below meth c ls hx hb hr hlocks hml hown hts hnm hB hl
        have hown : s.vm.findClass R_M = some m.cls := hown
        obtain ⟨hP, hK⟩ := hB
        have hl : lv_has ls 3 [(0, .ref ((q 0))), (1, .int ((nI ln))), (2, .int ((nI k)))] := hl
        obtain ⟨⟨ns, hperm, hma, hnu⟩, hsf, hhd, hvd⟩ := hR ln hln
        have hzo := (hok ln hln).1
        have h15 := ea_tp15 hzo
        have hlen60 := hzo.2.2.1
        have hnl : ns.length = (σ.1 ln).length := hperm.length_eq
        have htp : ea_tp ns = ea_tp (σ.1 ln) := ea_tp_perm hperm
        have hn31 : ∀ i, i < ns.length → ns.getD i 0 < 2 ^ 31 := fun i hi => by have := ea_tp_le (show ns.getD i 0 ∈ ns by rw [ea_gd hi]; exact List.getElem_mem hi); omega
        refine lv_aload_n hx hb d_M_count_0 rfl (lv_at hl 0 rfl) ?_
        refine lv_iload_n hx hb d_M_count_1 rfl (lv_at hl 1 rfl) ?_
        refine ea_callR (As := [.int ((nI ln))]) (rest := []) (r := 0) ⟨hx, hb, hml, hown, hts⟩ hK hP rfl rfl (c_M_bad0 l D q cI cJ w v hL) ⟨kl_M_41, kn_M_bad, ks_M_bad, ki_M, kc_M_bad⟩ kd_M_bad (by decide) ⟨Nat.le_of_ble_eq_true rfl, Nat.le_of_ble_eq_true rfl⟩ hl.1 rfl (Nat.le_of_ble_eq_true rfl) d_M_count_2 ⟨Nat.le_of_ble_eq_true rfl, Nat.le_of_ble_eq_true rfl⟩ ?_
        refine lv_if_eq (tgt := 10) hx hb d_M_count_5 (by decide) (fun _ => ?_) (fun c9 => absurd (rfl) c9)
        refine lv_iload_n hx hb d_M_count_10 rfl (lv_at hl 2 rfl) ?_
        refine lv_iconst (v := 1) hx hb d_M_count_11 (by decide) ?_
        refine lv_icmp_lt (tgt := 20) hx hb d_M_count_12 (by decide) (fun c9 => absurd c9 (Int32.not_lt.mpr hv1)) (fun _ => ?_)
        refine lv_iload_n hx hb d_M_count_15 rfl (lv_at hl 2 rfl) ?_
        refine lv_iconst (v := 5) hx hb d_M_count_16 (by decide) ?_
        refine lv_icmp_le (tgt := 23) hx hb d_M_count_17 (by decide) (fun _ => ?_) (fun c9 => absurd (hv2) c9)
        refine lv_aload_n hx hb d_M_count_23 rfl (lv_at hl 0 rfl) ?_
        refine va_get (ci := 1) (C := R_M) (T := F_M) (N := 6) hx hb hts i_M hown hK hP 0 rfl rfl 5 (by decide) (hts _ kf_M_verdicts) (fun _ h => h) rfl d_M_count_24 ?_
        refine lv_bipush (v := (nI 8)) hx hb d_M_count_27 (by decide) ?_
        refine lv_iload_n hx hb d_M_count_29 rfl (lv_at hl 1 rfl) ?_
        refine lv_imul hx hb d_M_count_30 ?_
        refine ea_ti (y := (nI (8 * ln))) (pk_mul _ _) ?_
        refine lv_iload_n hx hb d_M_count_31 rfl (lv_at hl 2 rfl) ?_
        refine lv_iadd hx hb d_M_count_32 ?_
        refine ea_ti (y := (nI (8 * ln + k))) (nI_add _ _) ?_
        refine ea_ild hx hb hK hP 5 0 rfl rfl (8 * ln + k) (rfl) (by omega) (by decide) (v := (σ.2.2.2 ln k)) (hvd k hk1 hk5) d_M_count_33 ?_
        exact ea_retI hx hb hr hlocks (rfl) d_M_count_34
      · rw [show sp_count σ (nI ln) y = -2 by unfold sp_count; rw [if_pos hL, if_neg (fun h => hv2 h.2)]]
        refine ea_start (by decide) (Nat.le_of_ble_eq_true rfl) ?_
        intro p e s m below meth c ls hx hb hr hlocks hml hown hts hnm hB hl
        have hown : s.vm.findClass R_M = some m.cls := hown
        obtain ⟨hP, hK⟩ := hB
        have hl : lv_has ls 3 [(0, .ref ((q 0))), (1, .int ((nI ln))), (2, .int y)] := hl
        obtain ⟨⟨ns, hperm, hma, hnu⟩, hsf, hhd, hvd⟩ := hR ln hln
        have hzo := (hok ln hln).1
        have h15 := ea_tp15 hzo
        have hlen60 := hzo.2.2.1
        have hnl : ns.length = (σ.1 ln).length := hperm.length_eq
        have htp : ea_tp ns = ea_tp (σ.1 ln) := ea_tp_perm hperm
        have hn31 : ∀ i, i < ns.length → ns.getD i 0 < 2 ^ 31 := fun i hi => by have := ea_tp_le (show ns.getD i 0 ∈ ns by rw [ea_gd hi]; exact List.getElem_mem hi); omega
        refine lv_aload_n hx hb d_M_count_0 rfl (lv_at hl 0 rfl) ?_
        refine lv_iload_n hx hb d_M_count_1 rfl (lv_at hl 1 rfl) ?_
        refine ea_callR (As := [.int ((nI ln))]) (rest := []) (r := 0) ⟨hx, hb, hml, hown, hts⟩ hK hP rfl rfl (c_M_bad0 l D q cI cJ w v hL) ⟨kl_M_41, kn_M_bad, ks_M_bad, ki_M, kc_M_bad⟩ kd_M_bad (by decide) ⟨Nat.le_of_ble_eq_true rfl, Nat.le_of_ble_eq_true rfl⟩ hl.1 rfl (Nat.le_of_ble_eq_true rfl) d_M_count_2 ⟨Nat.le_of_ble_eq_true rfl, Nat.le_of_ble_eq_true rfl⟩ ?_
        refine lv_if_eq (tgt := 10) hx hb d_M_count_5 (by decide) (fun _ => ?_) (fun c9 => absurd (rfl) c9)
        refine lv_iload_n hx hb d_M_count_10 rfl (lv_at hl 2 rfl) ?_
        refine lv_iconst (v := 1) hx hb d_M_count_11 (by decide) ?_
        refine lv_icmp_lt (tgt := 20) hx hb d_M_count_12 (by decide) (fun c9 => absurd c9 (Int32.not_lt.mpr hv1)) (fun _ => ?_)
        refine lv_iload_n hx hb d_M_count_15 rfl (lv_at hl 2 rfl) ?_
        refine lv_iconst (v := 5) hx hb d_M_count_16 (by decide) ?_
        refine lv_icmp_le (tgt := 23) hx hb d_M_count_17 (by decide) (fun c9 => absurd c9 (hv2)) (fun _ => ?_)
        refine lv_bipush (v := (-2)) hx hb d_M_count_20 (by decide) ?_
        exact ea_retI hx hb hr hlocks (rfl) d_M_count_22
    · rw [show sp_count σ (nI ln) y = -2 by unfold sp_count; rw [if_pos hL, if_neg (fun h => hv1 h.1)]]
      refine ea_start (by decide) (Nat.le_of_ble_eq_true rfl) ?_
      intro p e s m below meth c ls hx hb hr hlocks hml hown hts hnm hB hl
      have hown : s.vm.findClass R_M = some m.cls := hown
      obtain ⟨hP, hK⟩ := hB
      have hl : lv_has ls 3 [(0, .ref ((q 0))), (1, .int ((nI ln))), (2, .int y)] := hl
      obtain ⟨⟨ns, hperm, hma, hnu⟩, hsf, hhd, hvd⟩ := hR ln hln
      have hzo := (hok ln hln).1
      have h15 := ea_tp15 hzo
      have hlen60 := hzo.2.2.1
      have hnl : ns.length = (σ.1 ln).length := hperm.length_eq
      have htp : ea_tp ns = ea_tp (σ.1 ln) := ea_tp_perm hperm
      have hn31 : ∀ i, i < ns.length → ns.getD i 0 < 2 ^ 31 := fun i hi => by have := ea_tp_le (show ns.getD i 0 ∈ ns by rw [ea_gd hi]; exact List.getElem_mem hi); omega
      refine lv_aload_n hx hb d_M_count_0 rfl (lv_at hl 0 rfl) ?_
      refine lv_iload_n hx hb d_M_count_1 rfl (lv_at hl 1 rfl) ?_
      refine ea_callR (As := [.int ((nI ln))]) (rest := []) (r := 0) ⟨hx, hb, hml, hown, hts⟩ hK hP rfl rfl (c_M_bad0 l D q cI cJ w v hL) ⟨kl_M_41, kn_M_bad, ks_M_bad, ki_M, kc_M_bad⟩ kd_M_bad (by decide) ⟨Nat.le_of_ble_eq_true rfl, Nat.le_of_ble_eq_true rfl⟩ hl.1 rfl (Nat.le_of_ble_eq_true rfl) d_M_count_2 ⟨Nat.le_of_ble_eq_true rfl, Nat.le_of_ble_eq_true rfl⟩ ?_
      refine lv_if_eq (tgt := 10) hx hb d_M_count_5 (by decide) (fun _ => ?_) (fun c9 => absurd (rfl) c9)
      refine lv_iload_n hx hb d_M_count_10 rfl (lv_at hl 2 rfl) ?_
      refine lv_iconst (v := 1) hx hb d_M_count_11 (by decide) ?_
      refine lv_icmp_lt (tgt := 20) hx hb d_M_count_12 (by decide) (fun _ => ?_) (fun c9 => absurd (Int32.not_le.mp hv1) c9)
      refine lv_bipush (v := (-2)) hx hb d_M_count_20 (by decide) ?_
      exact ea_retI hx hb hr hlocks (rfl) d_M_count_22
  · rw [show sp_count σ x y = -1 by unfold sp_count; rw [if_neg hL]]
    refine ea_start (by decide) (Nat.le_of_ble_eq_true rfl) ?_
    intro p e s m below meth c ls hx hb hr hlocks hml hown hts hnm hB hl
    have hown : s.vm.findClass R_M = some m.cls := hown
    obtain ⟨hP, hK⟩ := hB
    have hl : lv_has ls 3 [(0, .ref ((q 0))), (1, .int x), (2, .int y)] := hl
    refine lv_aload_n hx hb d_M_count_0 rfl (lv_at hl 0 rfl) ?_
    refine lv_iload_n hx hb d_M_count_1 rfl (lv_at hl 1 rfl) ?_
    refine ea_callR (As := [.int x]) (rest := []) (r := 1) ⟨hx, hb, hml, hown, hts⟩ hK hP rfl rfl (c_M_bad1 l D q cI cJ w v hL) ⟨kl_M_41, kn_M_bad, ks_M_bad, ki_M, kc_M_bad⟩ kd_M_bad (by decide) ⟨Nat.le_of_ble_eq_true rfl, Nat.le_of_ble_eq_true rfl⟩ hl.1 rfl (Nat.le_of_ble_eq_true rfl) d_M_count_2 ⟨Nat.le_of_ble_eq_true rfl, Nat.le_of_ble_eq_true rfl⟩ ?_
    refine lv_if_eq (tgt := 10) hx hb d_M_count_5 (by decide) (fun c9 => absurd c9 (by decide)) (fun _ => ?_)
    refine lv_iconst (v := (-1)) hx hb d_M_count_8 (by decide) ?_
    exact ea_retI hx hb hr hlocks (rfl) d_M_count_9
set_option maxHeartbeats 4000000 in
set_option maxRecDepth 100000 in
theorem c_M_numberFor (l : Launch) (D : va_G) (q : Nat → Nat) (cI cJ : ClassId) (w : Nat) (hw : 4 ≤ w ∧ w ≤ 64) (σ : ea_S) (hok : ea_ok σ) (v : ea_MS) (hR : ea_RM σ v) (x y : Int32) : Met l y_M_numberFor (.code y_M_numberFor b_M_numberFor 3 (some .int) :: ea_tb) (ea_rm 2) (va_Pc [.ref ((q 0)), .int x, .int y] (ea_B D (ea_ty cI cJ) (ea_wM q cI (nI w) v))) (QcRead (sp_numberFor w σ x y)) 0 0 (fun _ => False) := by
  by_cases hL : ea_isL x
  · obtain ⟨ln, hln, rfl, hnx⟩ := ea_isL_n hL
    by_cases h1 : y < 0
    · rw [show sp_numberFor w σ (nI ln) y = -1000 by unfold sp_numberFor; rw [if_neg (fun h => absurd h1 (Int32.not_lt.mpr h.2.1))]]
      refine ea_start (by decide) (Nat.le_of_ble_eq_true rfl) ?_
      intro p e s m below meth c ls hx hb hr hlocks hml hown hts hnm hB hl
      have hown : s.vm.findClass R_M = some m.cls := hown
      obtain ⟨hP, hK⟩ := hB
      have hl : lv_has ls 3 [(0, .ref ((q 0))), (1, .int ((nI ln))), (2, .int y)] := hl
      refine lv_aload_n hx hb d_M_numberFor_0 rfl (lv_at hl 0 rfl) ?_
      refine lv_iload_n hx hb d_M_numberFor_1 rfl (lv_at hl 1 rfl) ?_
      refine ea_callR (As := [.int ((nI ln))]) (rest := []) (r := 0) ⟨hx, hb, hml, hown, hts⟩ hK hP rfl rfl (c_M_bad0 l D q cI cJ w v hL) ⟨kl_M_41, kn_M_bad, ks_M_bad, ki_M, kc_M_bad⟩ kd_M_bad (by decide) ⟨Nat.le_of_ble_eq_true rfl, Nat.le_of_ble_eq_true rfl⟩ hl.1 rfl (Nat.le_of_ble_eq_true rfl) d_M_numberFor_2 ⟨Nat.le_of_ble_eq_true rfl, Nat.le_of_ble_eq_true rfl⟩ ?_
      refine lv_if_ne (tgt := 19) hx hb d_M_numberFor_5 (by decide) (fun c9 => absurd (rfl) c9) (fun _ => ?_)
      refine lv_iload_n hx hb d_M_numberFor_8 rfl (lv_at hl 2 rfl) ?_
      refine lv_if_lt (tgt := 19) hx hb d_M_numberFor_9 (by decide) (fun _ => ?_) (fun c9 => absurd (h1) c9)
      refine lv_sipush (v := (-1000)) hx hb d_M_numberFor_19 (by decide) ?_
      exact ea_retI hx hb hr hlocks (rfl) d_M_numberFor_22
    · by_cases h2 : y ≤ 255
      · obtain ⟨lo, hlo, rfl, hny⟩ := ea_isW_n ⟨Int32.not_lt.mp h1, h2⟩
        rw [show sp_numberFor w σ (nI ln) (nI lo) = ea_I (ea_inf w (ea_tp (σ.1 ln)) lo) by unfold sp_numberFor; rw [if_pos ⟨hL, Int32.not_lt.mp h1, h2⟩, hnx, hny]]
        refine ea_start (by decide) (Nat.le_of_ble_eq_true rfl) ?_
        intro p e s m below meth c ls hx hb hr hlocks hml hown hts hnm hB hl
        have hown : s.vm.findClass R_M = some m.cls := hown
        obtain ⟨hP, hK⟩ := hB
        have hl : lv_has ls 3 [(0, .ref ((q 0))), (1, .int ((nI ln))), (2, .int ((nI lo)))] := hl
        refine lv_aload_n hx hb d_M_numberFor_0 rfl (lv_at hl 0 rfl) ?_
        refine lv_iload_n hx hb d_M_numberFor_1 rfl (lv_at hl 1 rfl) ?_
        refine ea_callR (As := [.int ((nI ln))]) (rest := []) (r := 0) ⟨hx, hb, hml, hown, hts⟩ hK hP rfl rfl (c_M_bad0 l D q cI cJ w v hL) ⟨kl_M_41, kn_M_bad, ks_M_bad, ki_M, kc_M_bad⟩ kd_M_bad (by decide) ⟨Nat.le_of_ble_eq_true rfl, Nat.le_of_ble_eq_true rfl⟩ hl.1 rfl (Nat.le_of_ble_eq_true rfl) d_M_numberFor_2 ⟨Nat.le_of_ble_eq_true rfl, Nat.le_of_ble_eq_true rfl⟩ ?_
        refine lv_if_ne (tgt := 19) hx hb d_M_numberFor_5 (by decide) (fun c9 => absurd (rfl) c9) (fun _ => ?_)
        refine lv_iload_n hx hb d_M_numberFor_8 rfl (lv_at hl 2 rfl) ?_
        refine lv_if_lt (tgt := 19) hx hb d_M_numberFor_9 (by decide) (fun c9 => absurd c9 (h1)) (fun _ => ?_)
        refine lv_iload_n hx hb d_M_numberFor_12 rfl (lv_at hl 2 rfl) ?_
        refine lv_sipush (v := 255) hx hb d_M_numberFor_13 (by decide) ?_
        refine lv_icmp_le (tgt := 23) hx hb d_M_numberFor_16 (by decide) (fun _ => ?_) (fun c9 => absurd (h2) c9)
        refine lv_aload_n hx hb d_M_numberFor_23 rfl (lv_at hl 0 rfl) ?_
        refine lv_iload_n hx hb d_M_numberFor_24 rfl (lv_at hl 1 rfl) ?_
        refine lv_iload_n hx hb d_M_numberFor_25 rfl (lv_at hl 2 rfl) ?_
        refine ea_callR (As := [.int ((nI ln)), .int ((nI lo))]) (rest := []) (r := (ea_I (ea_inf w (ea_tp (σ.1 ln)) lo))) ⟨hx, hb, hml, hown, hts⟩ hK hP rfl rfl (c_M_taken l D q cI cJ w hw σ hok v hR ln hln lo hlo) ⟨kl_M_33, kn_M_taken, ks_M_taken, ki_M, kc_M_taken⟩ kd_M_taken (by decide) ⟨Nat.le_of_ble_eq_true rfl, Nat.le_of_ble_eq_true rfl⟩ hl.1 rfl (Nat.le_of_ble_eq_true rfl) d_M_numberFor_26 ⟨Nat.le_of_ble_eq_true rfl, Nat.le_of_ble_eq_true rfl⟩ ?_
        exact ea_retI hx hb hr hlocks (rfl) d_M_numberFor_29
      · rw [show sp_numberFor w σ (nI ln) y = -1000 by unfold sp_numberFor; rw [if_neg (fun h => h2 h.2.2)]]
        refine ea_start (by decide) (Nat.le_of_ble_eq_true rfl) ?_
        intro p e s m below meth c ls hx hb hr hlocks hml hown hts hnm hB hl
        have hown : s.vm.findClass R_M = some m.cls := hown
        obtain ⟨hP, hK⟩ := hB
        have hl : lv_has ls 3 [(0, .ref ((q 0))), (1, .int ((nI ln))), (2, .int y)] := hl
        refine lv_aload_n hx hb d_M_numberFor_0 rfl (lv_at hl 0 rfl) ?_
        refine lv_iload_n hx hb d_M_numberFor_1 rfl (lv_at hl 1 rfl) ?_
        refine ea_callR (As := [.int ((nI ln))]) (rest := []) (r := 0) ⟨hx, hb, hml, hown, hts⟩ hK hP rfl rfl (c_M_bad0 l D q cI cJ w v hL) ⟨kl_M_41, kn_M_bad, ks_M_bad, ki_M, kc_M_bad⟩ kd_M_bad (by decide) ⟨Nat.le_of_ble_eq_true rfl, Nat.le_of_ble_eq_true rfl⟩ hl.1 rfl (Nat.le_of_ble_eq_true rfl) d_M_numberFor_2 ⟨Nat.le_of_ble_eq_true rfl, Nat.le_of_ble_eq_true rfl⟩ ?_
        refine lv_if_ne (tgt := 19) hx hb d_M_numberFor_5 (by decide) (fun c9 => absurd (rfl) c9) (fun _ => ?_)
        refine lv_iload_n hx hb d_M_numberFor_8 rfl (lv_at hl 2 rfl) ?_
        refine lv_if_lt (tgt := 19) hx hb d_M_numberFor_9 (by decide) (fun c9 => absurd c9 (h1)) (fun _ => ?_)
        refine lv_iload_n hx hb d_M_numberFor_12 rfl (lv_at hl 2 rfl) ?_
        refine lv_sipush (v := 255) hx hb d_M_numberFor_13 (by decide) ?_
        refine lv_icmp_le (tgt := 23) hx hb d_M_numberFor_16 (by decide) (fun c9 => absurd c9 (h2)) (fun _ => ?_)
        refine lv_sipush (v := (-1000)) hx hb d_M_numberFor_19 (by decide) ?_
        exact ea_retI hx hb hr hlocks (rfl) d_M_numberFor_22
  · rw [show sp_numberFor w σ x y = -1000 by unfold sp_numberFor; rw [if_neg (fun h => hL h.1)]]
    refine ea_start (by decide) (Nat.le_of_ble_eq_true rfl) ?_
    intro p e s m below meth c ls hx hb hr hlocks hml hown hts hnm hB hl
    have hown : s.vm.findClass R_M = some m.cls := hown
    obtain ⟨hP, hK⟩ := hB
    have hl : lv_has ls 3 [(0, .ref ((q 0))), (1, .int x), (2, .int y)] := hl
    refine lv_aload_n hx hb d_M_numberFor_0 rfl (lv_at hl 0 rfl) ?_
    refine lv_iload_n hx hb d_M_numberFor_1 rfl (lv_at hl 1 rfl) ?_
    refine ea_callR (As := [.int x]) (rest := []) (r := 1) ⟨hx, hb, hml, hown, hts⟩ hK hP rfl rfl (c_M_bad1 l D q cI cJ w v hL) ⟨kl_M_41, kn_M_bad, ks_M_bad, ki_M, kc_M_bad⟩ kd_M_bad (by decide) ⟨Nat.le_of_ble_eq_true rfl, Nat.le_of_ble_eq_true rfl⟩ hl.1 rfl (Nat.le_of_ble_eq_true rfl) d_M_numberFor_2 ⟨Nat.le_of_ble_eq_true rfl, Nat.le_of_ble_eq_true rfl⟩ ?_
    refine lv_if_ne (tgt := 19) hx hb d_M_numberFor_5 (by decide) (fun _ => ?_) (fun c9 => absurd c9 (by decide))
    refine lv_sipush (v := (-1000)) hx hb d_M_numberFor_19 (by decide) ?_
    exact ea_retI hx hb hr hlocks (rfl) d_M_numberFor_22
set_option maxHeartbeats 4000000 in
set_option maxRecDepth 100000 in
theorem c_M_has (l : Launch) (D : va_G) (q : Nat → Nat) (cI cJ : ClassId) (w : Nat) (hw : 4 ≤ w ∧ w ≤ 64) (σ : ea_S) (hok : ea_ok σ) (v : ea_MS) (hR : ea_RM σ v) (x n : Int32) : Met l y_M_has (.code y_M_has b_M_has 3 (some .int) :: ea_tb) (ea_rm 1) (va_Pc [.ref ((q 0)), .int x, .int n] (ea_B D (ea_ty cI cJ) (ea_wM q cI (nI w) v))) (QcRead (sp_has σ x n)) 0 0 (fun _ => False) := by
  by_cases hL : ea_isL x
  · obtain ⟨ln, hln, rfl, hnx⟩ := ea_isL_n hL
    rw [show sp_has σ (nI ln) n = if n ∈ (σ.1 ln).map nI then 1 else 0 by unfold sp_has; rw [if_pos hL, hnx]]
    refine ea_start (by decide) (Nat.le_of_ble_eq_true rfl) ?_
    intro p e s m below meth c ls hx hb hr hlocks hml hown hts hnm hB hl
    have hown : s.vm.findClass R_M = some m.cls := hown
    obtain ⟨hP, hK⟩ := hB
    have hl : lv_has ls 3 [(0, .ref ((q 0))), (1, .int ((nI ln))), (2, .int n)] := hl
    obtain ⟨⟨ns, hperm, hma, hnu⟩, hsf, hhd, hvd⟩ := hR ln hln
    have hzo := (hok ln hln).1
    have h15 := ea_tp15 hzo
    have hlen60 := hzo.2.2.1
    have hnl : ns.length = (σ.1 ln).length := hperm.length_eq
    have htp : ea_tp ns = ea_tp (σ.1 ln) := ea_tp_perm hperm
    have hn31 : ∀ i, i < ns.length → ns.getD i 0 < 2 ^ 31 := fun i hi => by have := ea_tp_le (show ns.getD i 0 ∈ ns by rw [ea_gd hi]; exact List.getElem_mem hi); omega
    refine lv_aload_n hx hb d_M_has_0 rfl (lv_at hl 0 rfl) ?_
    refine lv_iload_n hx hb d_M_has_1 rfl (lv_at hl 1 rfl) ?_
    refine ea_callR (As := [.int ((nI ln))]) (rest := []) (r := 0) ⟨hx, hb, hml, hown, hts⟩ hK hP rfl rfl (c_M_bad0 l D q cI cJ w v hL) ⟨kl_M_41, kn_M_bad, ks_M_bad, ki_M, kc_M_bad⟩ kd_M_bad (by decide) ⟨Nat.le_of_ble_eq_true rfl, Nat.le_of_ble_eq_true rfl⟩ hl.1 rfl (Nat.le_of_ble_eq_true rfl) d_M_has_2 ⟨Nat.le_of_ble_eq_true rfl, Nat.le_of_ble_eq_true rfl⟩ ?_
    refine lv_if_eq (tgt := 10) hx hb d_M_has_5 (by decide) (fun _ => ?_) (fun c9 => absurd (rfl) c9)
    refine lv_aload_n hx hb d_M_has_10 rfl (lv_at hl 0 rfl) ?_
    refine lv_iload_n hx hb d_M_has_11 rfl (lv_at hl 1 rfl) ?_
    refine lv_iload_n hx hb d_M_has_12 rfl (lv_at hl 2 rfl) ?_
    refine ea_callR (As := [.int ((nI ln)), .int n]) (rest := []) (r := (if n ∈ (σ.1 ln).map nI then 1 else 0)) ⟨hx, hb, hml, hown, hts⟩ hK hP rfl rfl (c_M_holds l D q cI cJ w hw σ hok v hR ln hln n) ⟨kl_M_37, kn_M_holds, ks_M_holds, ki_M, kc_M_holds⟩ kd_M_holds (by decide) ⟨Nat.le_of_ble_eq_true rfl, Nat.le_of_ble_eq_true rfl⟩ hl.1 rfl (Nat.le_of_ble_eq_true rfl) d_M_has_13 ⟨Nat.le_of_ble_eq_true rfl, Nat.le_of_ble_eq_true rfl⟩ ?_
    refine lv_if_eq (tgt := 23) hx hb d_M_has_16 (by decide) (fun c1 => ?_) (fun c1 => ?_)
    · refine lv_iconst (v := 0) hx hb d_M_has_23 (by decide) ?_
      exact ea_retI hx hb hr hlocks (c1.symm) d_M_has_24
    · have c1 : n ∈ (σ.1 ln).map nI := by
        by_cases h : n ∈ (σ.1 ln).map nI
        · exact h
        · exact absurd (if_neg h) c1
      refine lv_iconst (v := 1) hx hb d_M_has_19 (by decide) ?_
      refine lv_goto (tgt := 24) hx hb d_M_has_20 (by decide) ?_
      exact ea_retI hx hb hr hlocks ((if_pos c1).symm) d_M_has_24
  · rw [show sp_has σ x n = -1 by unfold sp_has; rw [if_neg hL]]
    refine ea_start (by decide) (Nat.le_of_ble_eq_true rfl) ?_
    intro p e s m below meth c ls hx hb hr hlocks hml hown hts hnm hB hl
    have hown : s.vm.findClass R_M = some m.cls := hown
    obtain ⟨hP, hK⟩ := hB
    have hl : lv_has ls 3 [(0, .ref ((q 0))), (1, .int x), (2, .int n)] := hl
    refine lv_aload_n hx hb d_M_has_0 rfl (lv_at hl 0 rfl) ?_
    refine lv_iload_n hx hb d_M_has_1 rfl (lv_at hl 1 rfl) ?_
    refine ea_callR (As := [.int x]) (rest := []) (r := 1) ⟨hx, hb, hml, hown, hts⟩ hK hP rfl rfl (c_M_bad1 l D q cI cJ w v hL) ⟨kl_M_41, kn_M_bad, ks_M_bad, ki_M, kc_M_bad⟩ kd_M_bad (by decide) ⟨Nat.le_of_ble_eq_true rfl, Nat.le_of_ble_eq_true rfl⟩ hl.1 rfl (Nat.le_of_ble_eq_true rfl) d_M_has_2 ⟨Nat.le_of_ble_eq_true rfl, Nat.le_of_ble_eq_true rfl⟩ ?_
    refine lv_if_eq (tgt := 10) hx hb d_M_has_5 (by decide) (fun c9 => absurd c9 (by decide)) (fun _ => ?_)
    refine lv_iconst (v := (-1)) hx hb d_M_has_8 (by decide) ?_
    exact ea_retI hx hb hr hlocks (rfl) d_M_has_9
set_option maxHeartbeats 4000000 in
set_option maxRecDepth 100000 in
theorem c_M_inWindow (l : Launch) (D : va_G) (q : Nat → Nat) (cI cJ : ClassId) (w : Nat) (hw : 4 ≤ w ∧ w ≤ 64) (σ : ea_S) (hok : ea_ok σ) (v : ea_MS) (hR : ea_RM σ v) (x : Int32) : Met l y_M_inWindow (.code y_M_inWindow b_M_inWindow 5 (some .int) :: ea_tb) (ea_rm 1) (va_Pc [.ref ((q 0)), .int x] (ea_B D (ea_ty cI cJ) (ea_wM q cI (nI w) v))) (QcRead (sp_inWindow w σ x)) 0 0 (fun _ => False) := by
  by_cases hL : ea_isL x
  · obtain ⟨ln, hln, rfl, hnx⟩ := ea_isL_n hL
    rw [show sp_inWindow w σ (nI ln) = nI (ea_cw w (σ.1 ln) w) by unfold sp_inWindow; rw [if_pos hL, hnx]]
    refine ea_start (by decide) (Nat.le_of_ble_eq_true rfl) ?_
    intro p e s m below meth c ls hx hb hr hlocks hml hown hts hnm hB hl
    have hown : s.vm.findClass R_M = some m.cls := hown
    obtain ⟨hP, hK⟩ := hB
    have hl : lv_has ls 5 [(0, .ref ((q 0))), (1, .int ((nI ln)))] := hl
    obtain ⟨⟨ns, hperm, hma, hnu⟩, hsf, hhd, hvd⟩ := hR ln hln
    have hzo := (hok ln hln).1
    have h15 := ea_tp15 hzo
    have hlen60 := hzo.2.2.1
    have hnl : ns.length = (σ.1 ln).length := hperm.length_eq
    have htp : ea_tp ns = ea_tp (σ.1 ln) := ea_tp_perm hperm
    have hn31 : ∀ i, i < ns.length → ns.getD i 0 < 2 ^ 31 := fun i hi => by have := ea_tp_le (show ns.getD i 0 ∈ ns by rw [ea_gd hi]; exact List.getElem_mem hi); omega
    have loop : ∀ (g cc : Nat) (ls : Array Slot), g ≤ w → cc + ea_cw w (σ.1 ln) g = (ea_cw w (σ.1 ln) w) → lv_has ls 5 [(0, .ref ((q 0))), (1, .int ((nI ln))), (2, .int ((nI (ea_tp (σ.1 ln))))), (3, .int ((nI cc))), (4, .int ((ea_I (((ea_tp (σ.1 ln)) : Int) + 1 - (g : Int)))))] → W p l e (ea_rm 1) s m [.ref ((q 0)), .int ((nI ln))].toArray below meth c s.heap [] 0 0 (MQ below (QcRead (nI (ea_cw w (σ.1 ln) w))) [.ref ((q 0)), .int ((nI ln))].toArray s 0 0 (fun _ => False)) (F0 m 28 ls []) := by
      intro g
      induction g with
      | zero =>
        intro cc ls hg hcc hl
        refine lv_iload hx hb d_M_inWindow_28 (lv_at hl 4 rfl) ?_
        refine lv_iload_n hx hb d_M_inWindow_30 rfl (lv_at hl 2 rfl) ?_
        refine lv_icmp_gt (tgt := 53) hx hb d_M_inWindow_31 (by decide) (fun _ => ?_) (fun c9 => absurd ((ea_lt' ((ea_tp (σ.1 ln)) : Int) (((ea_tp (σ.1 ln)) : Int) + 1 - ((0 : Nat) : Int)) (ea_In _) rfl (by omega) (by omega)).mpr (by omega)) c9)
        refine lv_iload_n hx hb d_M_inWindow_53 rfl (lv_at hl 3 rfl) ?_
        exact ea_retI hx hb hr hlocks (congrArg nI hcc) d_M_inWindow_54
      | succ g ih =>
        intro cc ls hg hcc hl
        have hmi := ea_mem_I hzo (g := g) (by omega)
        have hbi : ea_bit w (σ.1 ln) g = true ↔ (ea_I (((ea_tp (σ.1 ln)) : Int) - (g : Int))) ∈ (σ.1 ln).map nI := by
          rw [hmi, ea_bit_iff]
          exact ⟨fun h => h.2, fun h => ⟨by omega, h⟩⟩
        refine lv_iload hx hb d_M_inWindow_28 (lv_at hl 4 rfl) ?_
        refine lv_iload_n hx hb d_M_inWindow_30 rfl (lv_at hl 2 rfl) ?_
        refine lv_icmp_gt (tgt := 53) hx hb d_M_inWindow_31 (by decide) (fun c9 => absurd c9 (mt (ea_lt' ((ea_tp (σ.1 ln)) : Int) (((ea_tp (σ.1 ln)) : Int) + 1 - ((g + 1 : Nat) : Int)) (ea_In _) rfl (by omega) (by omega)).mp (by omega))) (fun _ => ?_)
        refine lv_aload_n hx hb d_M_inWindow_34 rfl (lv_at hl 0 rfl) ?_
        refine lv_iload_n hx hb d_M_inWindow_35 rfl (lv_at hl 1 rfl) ?_
        refine lv_iload hx hb d_M_inWindow_36 (lv_at hl 4 rfl) ?_
        refine ea_ti (y := (ea_I (((ea_tp (σ.1 ln)) : Int) - (g : Int)))) (congrArg ea_I (by omega)) ?_
        refine ea_callR (As := [.int ((nI ln)), .int ((ea_I (((ea_tp (σ.1 ln)) : Int) - (g : Int))))]) (rest := []) (r := (if (ea_I (((ea_tp (σ.1 ln)) : Int) - (g : Int))) ∈ (σ.1 ln).map nI then 1 else 0)) ⟨hx, hb, hml, hown, hts⟩ hK hP rfl rfl (c_M_holds l D q cI cJ w hw σ hok v hR ln hln (ea_I (((ea_tp (σ.1 ln)) : Int) - (g : Int)))) ⟨kl_M_37, kn_M_holds, ks_M_holds, ki_M, kc_M_holds⟩ kd_M_holds (by decide) ⟨Nat.le_of_ble_eq_true rfl, Nat.le_of_ble_eq_true rfl⟩ hl.1 rfl (Nat.le_of_ble_eq_true rfl) d_M_inWindow_38 ⟨Nat.le_of_ble_eq_true rfl, Nat.le_of_ble_eq_true rfl⟩ ?_
        refine lv_if_eq (tgt := 47) hx hb d_M_inWindow_41 (by decide) (fun c1 => ?_) (fun c1 => ?_)
        · have hnb : ¬ ea_bit w (σ.1 ln) g = true := fun h => absurd c1 (by rw [if_pos (hbi.mp h)]; decide)
          have hcs := ea_cw_n hnb
          refine lv_iinc (v := (ea_I (((ea_tp (σ.1 ln)) : Int) + 1 - (g : Int)))) (lv' := [(4, .int ((ea_I (((ea_tp (σ.1 ln)) : Int) + 1 - (g : Int))))), (0, .ref ((q 0))), (1, .int ((nI ln))), (2, .int ((nI (ea_tp (σ.1 ln))))), (3, .int ((nI cc)))]) hx hb d_M_inWindow_47 hl (k := 4) rfl ((ea_Iadd _ 1).trans (congrArg ea_I (by omega))) (by decide) rfl (fun ls hl => ?_)
          refine lv_goto (tgt := 28) hx hb d_M_inWindow_50 (by decide) ?_
          exact ih cc ls (by omega) (by omega) (lv_sub hl [1, 2, 3, 4, 0] rfl)
        · have hyb : ea_bit w (σ.1 ln) g = true := by
            by_cases h : (ea_I (((ea_tp (σ.1 ln)) : Int) - (g : Int))) ∈ (σ.1 ln).map nI
            · exact hbi.mpr h
            · exact absurd (if_neg h) c1
          have hcs := ea_cw_s hyb
          refine lv_iinc (v := (nI (cc + 1))) (lv' := [(3, .int ((nI (cc + 1)))), (0, .ref ((q 0))), (1, .int ((nI ln))), (2, .int ((nI (ea_tp (σ.1 ln))))), (4, .int ((ea_I (((ea_tp (σ.1 ln)) : Int) + 1 - ((g + 1 : Nat) : Int)))))]) hx hb d_M_inWindow_44 hl (k := 3) rfl (nI_1 _) (by decide) rfl (fun ls hl => ?_)
          refine lv_iinc (v := (ea_I (((ea_tp (σ.1 ln)) : Int) + 1 - (g : Int)))) (lv' := [(4, .int ((ea_I (((ea_tp (σ.1 ln)) : Int) + 1 - (g : Int))))), (3, .int ((nI (cc + 1)))), (0, .ref ((q 0))), (1, .int ((nI ln))), (2, .int ((nI (ea_tp (σ.1 ln)))))]) hx hb d_M_inWindow_47 hl (k := 4) rfl ((ea_Iadd _ 1).trans (congrArg ea_I (by omega))) (by decide) rfl (fun ls hl => ?_)
          refine lv_goto (tgt := 28) hx hb d_M_inWindow_50 (by decide) ?_
          exact ih (cc + 1) ls (by omega) (by omega) (lv_sub hl [2, 3, 4, 1, 0] rfl)
    refine lv_aload_n hx hb d_M_inWindow_0 rfl (lv_at hl 0 rfl) ?_
    refine lv_iload_n hx hb d_M_inWindow_1 rfl (lv_at hl 1 rfl) ?_
    refine ea_callR (As := [.int ((nI ln))]) (rest := []) (r := 0) ⟨hx, hb, hml, hown, hts⟩ hK hP rfl rfl (c_M_bad0 l D q cI cJ w v hL) ⟨kl_M_41, kn_M_bad, ks_M_bad, ki_M, kc_M_bad⟩ kd_M_bad (by decide) ⟨Nat.le_of_ble_eq_true rfl, Nat.le_of_ble_eq_true rfl⟩ hl.1 rfl (Nat.le_of_ble_eq_true rfl) d_M_inWindow_2 ⟨Nat.le_of_ble_eq_true rfl, Nat.le_of_ble_eq_true rfl⟩ ?_
    refine lv_if_eq (tgt := 10) hx hb d_M_inWindow_5 (by decide) (fun _ => ?_) (fun c9 => absurd (rfl) c9)
    refine lv_aload_n hx hb d_M_inWindow_10 rfl (lv_at hl 0 rfl) ?_
    refine lv_iload_n hx hb d_M_inWindow_11 rfl (lv_at hl 1 rfl) ?_
    refine ea_callR (As := [.int ((nI ln))]) (rest := []) (r := (nI (ea_tp (σ.1 ln)))) ⟨hx, hb, hml, hown, hts⟩ hK hP rfl rfl (c_M_greatest l D q cI cJ w hw σ hok v hR ln hln) ⟨kl_M_29, kn_M_greatest, ks_M_greatest, ki_M, kc_M_greatest⟩ kd_M_greatest (by decide) ⟨Nat.le_of_ble_eq_true rfl, Nat.le_of_ble_eq_true rfl⟩ hl.1 rfl (Nat.le_of_ble_eq_true rfl) d_M_inWindow_12 ⟨Nat.le_of_ble_eq_true rfl, Nat.le_of_ble_eq_true rfl⟩ ?_
    refine lv_istore_n (lv' := [(2, .int ((nI (ea_tp (σ.1 ln))))), (0, .ref ((q 0))), (1, .int ((nI ln)))]) hx hb d_M_inWindow_15 rfl hl (by decide) rfl (fun ls hl => ?_)
    refine lv_iconst (v := (nI 0)) hx hb d_M_inWindow_16 (by decide) ?_
    refine lv_istore_n (lv' := [(3, .int ((nI 0))), (2, .int ((nI (ea_tp (σ.1 ln))))), (0, .ref ((q 0))), (1, .int ((nI ln)))]) hx hb d_M_inWindow_17 rfl hl (by decide) rfl (fun ls hl => ?_)
    refine lv_iload_n hx hb d_M_inWindow_18 rfl (lv_at hl 1 rfl) ?_
    refine lv_aload_n hx hb d_M_inWindow_19 rfl (lv_at hl 2 rfl) ?_
    refine va_get (ci := 1) (C := R_M) (T := F_M) (N := 6) hx hb hts i_M hown hK hP 0 rfl rfl 0 (by decide) (hts _ kf_M_window) (fun _ h => h) rfl d_M_inWindow_20 ?_
    refine lv_isub hx hb d_M_inWindow_23 ?_
    refine ea_ti (y := (ea_I (((ea_tp (σ.1 ln)) : Int) - (w : Int)))) (ea_sub) ?_
    refine lv_iconst (v := 1) hx hb d_M_inWindow_24 (by decide) ?_
    refine lv_iadd hx hb d_M_inWindow_25 ?_
    refine ea_ti (y := (ea_I (((ea_tp (σ.1 ln)) : Int) + 1 - (w : Int)))) ((ea_Iadd _ 1).trans (congrArg ea_I (by omega))) ?_
    refine lv_istore (lv' := [(4, .int ((ea_I (((ea_tp (σ.1 ln)) : Int) + 1 - (w : Int))))), (3, .int ((nI 0))), (2, .int ((nI (ea_tp (σ.1 ln))))), (0, .ref ((q 0))), (1, .int ((nI ln)))]) hx hb d_M_inWindow_26 hl (by decide) rfl (fun ls hl => ?_)
    exact loop w 0 ls (by omega) (by omega) (lv_sub hl [3, 4, 2, 1, 0] rfl)
  · rw [show sp_inWindow w σ x = -1 by unfold sp_inWindow; rw [if_neg hL]]
    refine ea_start (by decide) (Nat.le_of_ble_eq_true rfl) ?_
    intro p e s m below meth c ls hx hb hr hlocks hml hown hts hnm hB hl
    have hown : s.vm.findClass R_M = some m.cls := hown
    obtain ⟨hP, hK⟩ := hB
    have hl : lv_has ls 5 [(0, .ref ((q 0))), (1, .int x)] := hl
    refine lv_aload_n hx hb d_M_inWindow_0 rfl (lv_at hl 0 rfl) ?_
    refine lv_iload_n hx hb d_M_inWindow_1 rfl (lv_at hl 1 rfl) ?_
    refine ea_callR (As := [.int x]) (rest := []) (r := 1) ⟨hx, hb, hml, hown, hts⟩ hK hP rfl rfl (c_M_bad1 l D q cI cJ w v hL) ⟨kl_M_41, kn_M_bad, ks_M_bad, ki_M, kc_M_bad⟩ kd_M_bad (by decide) ⟨Nat.le_of_ble_eq_true rfl, Nat.le_of_ble_eq_true rfl⟩ hl.1 rfl (Nat.le_of_ble_eq_true rfl) d_M_inWindow_2 ⟨Nat.le_of_ble_eq_true rfl, Nat.le_of_ble_eq_true rfl⟩ ?_
    refine lv_if_eq (tgt := 10) hx hb d_M_inWindow_5 (by decide) (fun c9 => absurd c9 (by decide)) (fun _ => ?_)
    refine lv_iconst (v := (-1)) hx hb d_M_inWindow_8 (by decide) ?_
    exact ea_retI hx hb hr hlocks (rfl) d_M_inWindow_9
set_option maxHeartbeats 4000000 in
set_option maxRecDepth 100000 in
theorem c_M_lost (l : Launch) (D : va_G) (q : Nat → Nat) (cI cJ : ClassId) (w : Nat) (hw : 4 ≤ w ∧ w ≤ 64) (σ : ea_S) (hok : ea_ok σ) (v : ea_MS) (hR : ea_RM σ v) (x : Int32) : Met l y_M_lost (.code y_M_lost b_M_lost 5 (some .int) :: ea_tb) (ea_rm 1) (va_Pc [.ref ((q 0)), .int x] (ea_B D (ea_ty cI cJ) (ea_wM q cI (nI w) v))) (QcRead (sp_lost w σ x)) 0 0 (fun _ => False) := by
  by_cases hL : ea_isL x
  · obtain ⟨ln, hln, rfl, hnx⟩ := ea_isL_n hL
    rw [show sp_lost w σ (nI ln) = ea_lost w (σ.1 ln) by unfold sp_lost; rw [if_pos hL, hnx]]
    refine ea_start (by decide) (Nat.le_of_ble_eq_true rfl) ?_
    intro p e s m below meth c ls hx hb hr hlocks hml hown hts hnm hB hl
    have hown : s.vm.findClass R_M = some m.cls := hown
    obtain ⟨hP, hK⟩ := hB
    have hl : lv_has ls 5 [(0, .ref ((q 0))), (1, .int ((nI ln)))] := hl
    obtain ⟨⟨ns, hperm, hma, hnu⟩, hsf, hhd, hvd⟩ := hR ln hln
    have hzo := (hok ln hln).1
    have h15 := ea_tp15 hzo
    have hlen60 := hzo.2.2.1
    have hnl : ns.length = (σ.1 ln).length := hperm.length_eq
    have htp : ea_tp ns = ea_tp (σ.1 ln) := ea_tp_perm hperm
    have hn31 : ∀ i, i < ns.length → ns.getD i 0 < 2 ^ 31 := fun i hi => by have := ea_tp_le (show ns.getD i 0 ∈ ns by rw [ea_gd hi]; exact List.getElem_mem hi); omega
    have loop : ∀ (g i : Nat) (ls : Array Slot), i + g = ns.length → lv_has ls 5 [(0, .ref ((q 0))), (1, .int ((nI ln))), (2, .int ((ea_I (((ea_tp (σ.1 ln)) : Int) - (w : Int))))), (3, .int ((nI ((ea_tp (σ.1 ln)) - w) - nI ((ns.take i).countP (fun x => decide (x ≤ ((ea_tp (σ.1 ln)) - w))))))), (4, .int ((nI i)))] → W p l e (ea_rm 1) s m [.ref ((q 0)), .int ((nI ln))].toArray below meth c s.heap [] 0 0 (MQ below (QcRead (ea_lost w (σ.1 ln))) [.ref ((q 0)), .int ((nI ln))].toArray s 0 0 (fun _ => False)) (F0 m 34 ls []) := by
      intro g
      induction g with
      | zero =>
        intro i ls hi hl
        refine lv_iload hx hb d_M_lost_34 (lv_at hl 4 rfl) ?_
        refine lv_aload_n hx hb d_M_lost_36 rfl (lv_at hl 0 rfl) ?_
        refine va_get (ci := 1) (C := R_M) (T := F_M) (N := 6) hx hb hts i_M hown hK hP 0 rfl rfl 2 (by decide) (hts _ kf_M_many) (fun _ h => h) rfl d_M_lost_37 ?_
        refine lv_iload_n hx hb d_M_lost_40 rfl (lv_at hl 1 rfl) ?_
        refine ea_ild hx hb hK hP 2 0 rfl rfl (ln) (rfl) (hln) (by decide) (v := (nI ns.length)) (hma) d_M_lost_41 ?_
        refine lv_icmp_ge (tgt := 77) hx hb d_M_lost_42 (by decide) (fun _ => ?_) (fun c9 => absurd (nI_le (by omega) (by omega)) c9)
        refine lv_iload_n hx hb d_M_lost_77 rfl (lv_at hl 3 rfl) ?_
        exact ea_retI hx hb hr hlocks (by unfold ea_lost; rw [List.take_of_length_le (by omega), hperm.countP_eq]) d_M_lost_78
      | succ g ih =>
        intro i ls hi hl
        have hg31 := hn31 i (by omega)
        have hct := ea_cnt_take (fun x => decide (x ≤ ((ea_tp (σ.1 ln)) - w))) (show i < ns.length by omega)
        have hgm : ns.getD i 0 ∈ σ.1 ln := hperm.mem_iff.mp (by rw [ea_gd (show i < ns.length by omega)]; exact List.getElem_mem _)
        have hg1 := hzo.2.1 _ hgm
        have hgt := ea_tp_le hgm
        refine lv_iload hx hb d_M_lost_34 (lv_at hl 4 rfl) ?_
        refine lv_aload_n hx hb d_M_lost_36 rfl (lv_at hl 0 rfl) ?_
        refine va_get (ci := 1) (C := R_M) (T := F_M) (N := 6) hx hb hts i_M hown hK hP 0 rfl rfl 2 (by decide) (hts _ kf_M_many) (fun _ h => h) rfl d_M_lost_37 ?_
        refine lv_iload_n hx hb d_M_lost_40 rfl (lv_at hl 1 rfl) ?_
        refine ea_ild hx hb hK hP 2 0 rfl rfl (ln) (rfl) (hln) (by decide) (v := (nI ns.length)) (hma) d_M_lost_41 ?_
        refine lv_icmp_ge (tgt := 77) hx hb d_M_lost_42 (by decide) (fun c9 => absurd c9 (nI_ge (by omega) (by omega))) (fun _ => ?_)
        refine lv_iload hx hb d_M_lost_45 (lv_at hl 4 rfl) ?_
        refine lv_bipush (v := (nI 60)) hx hb d_M_lost_47 (by decide) ?_
        refine lv_icmp_ge (tgt := 77) hx hb d_M_lost_49 (by decide) (fun c9 => absurd c9 (nI_ge (by omega) (by omega))) (fun _ => ?_)
        refine lv_aload_n hx hb d_M_lost_52 rfl (lv_at hl 0 rfl) ?_
        refine va_get (ci := 1) (C := R_M) (T := F_M) (N := 6) hx hb hts i_M hown hK hP 0 rfl rfl 1 (by decide) (hts _ kf_M_number) (fun _ h => h) rfl d_M_lost_53 ?_
        refine lv_bipush (v := (nI 60)) hx hb d_M_lost_56 (by decide) ?_
        refine lv_iload_n hx hb d_M_lost_58 rfl (lv_at hl 1 rfl) ?_
        refine lv_imul hx hb d_M_lost_59 ?_
        refine ea_ti (y := (nI (60 * ln))) (pk_mul _ _) ?_
        refine lv_iload hx hb d_M_lost_60 (lv_at hl 4 rfl) ?_
        refine lv_iadd hx hb d_M_lost_62 ?_
        refine ea_ti (y := (nI (60 * ln + i))) (nI_add _ _) ?_
        refine ea_ild hx hb hK hP 1 0 rfl rfl (60 * ln + i) (rfl) (by omega) (by decide) (v := (nI (ns.getD i 0))) (hnu i (by omega)) d_M_lost_63 ?_
        refine lv_iload_n hx hb d_M_lost_64 rfl (lv_at hl 2 rfl) ?_
        refine lv_icmp_gt (tgt := 71) hx hb d_M_lost_65 (by decide) (fun c1 => ?_) (fun c1 => ?_)
        · have c1 := (ea_lt' (((ea_tp (σ.1 ln)) : Int) - (w : Int)) (ns.getD i 0 : Int) rfl (ea_In _) (by omega) (by omega)).mp c1
          have hcs : ((ns.take i).countP (fun x => decide (x ≤ ((ea_tp (σ.1 ln)) - w)))) = ((ns.take (i + 1)).countP (fun x => decide (x ≤ ((ea_tp (σ.1 ln)) - w)))) := by
            rw [hct, if_neg (by rw [decide_eq_true_eq]; omega)]
            rfl
          refine lv_iinc (v := (nI (i + 1))) (lv' := [(4, .int ((nI (i + 1)))), (0, .ref ((q 0))), (1, .int ((nI ln))), (2, .int ((ea_I (((ea_tp (σ.1 ln)) : Int) - (w : Int))))), (3, .int ((nI ((ea_tp (σ.1 ln)) - w) - nI ((ns.take i).countP (fun x => decide (x ≤ ((ea_tp (σ.1 ln)) - w)))))))]) hx hb d_M_lost_71 hl (k := 4) rfl (nI_1 _) (by decide) rfl (fun ls hl => ?_)
          refine lv_goto (tgt := 34) hx hb d_M_lost_74 (by decide) ?_
          rw [hcs] at hl
          exact ih (i + 1) ls (by omega) (lv_sub hl [1, 2, 3, 4, 0] rfl)
        · have c1 := mt (ea_lt' (((ea_tp (σ.1 ln)) : Int) - (w : Int)) (ns.getD i 0 : Int) rfl (ea_In _) (by omega) (by omega)).mpr c1
          have hcs : ((ns.take i).countP (fun x => decide (x ≤ ((ea_tp (σ.1 ln)) - w)))) + 1 = ((ns.take (i + 1)).countP (fun x => decide (x ≤ ((ea_tp (σ.1 ln)) - w)))) := by
            rw [hct, if_pos (by rw [decide_eq_true_eq]; omega)]
          refine lv_iinc (v := (nI ((ea_tp (σ.1 ln)) - w) - nI (((ns.take i).countP (fun x => decide (x ≤ ((ea_tp (σ.1 ln)) - w)))) + 1))) (lv' := [(3, .int ((nI ((ea_tp (σ.1 ln)) - w) - nI (((ns.take i).countP (fun x => decide (x ≤ ((ea_tp (σ.1 ln)) - w)))) + 1)))), (0, .ref ((q 0))), (1, .int ((nI ln))), (2, .int ((ea_I (((ea_tp (σ.1 ln)) : Int) - (w : Int))))), (4, .int ((nI i)))]) hx hb d_M_lost_68 hl (k := 3) rfl (ea_dec1 _ _) (by decide) rfl (fun ls hl => ?_)
          refine lv_iinc (v := (nI (i + 1))) (lv' := [(4, .int ((nI (i + 1)))), (3, .int ((nI ((ea_tp (σ.1 ln)) - w) - nI (((ns.take i).countP (fun x => decide (x ≤ ((ea_tp (σ.1 ln)) - w)))) + 1)))), (0, .ref ((q 0))), (1, .int ((nI ln))), (2, .int ((ea_I (((ea_tp (σ.1 ln)) : Int) - (w : Int)))))]) hx hb d_M_lost_71 hl (k := 4) rfl (nI_1 _) (by decide) rfl (fun ls hl => ?_)
          refine lv_goto (tgt := 34) hx hb d_M_lost_74 (by decide) ?_
          rw [hcs] at hl
          exact ih (i + 1) ls (by omega) (lv_sub hl [2, 3, 4, 1, 0] rfl)
    refine lv_aload_n hx hb d_M_lost_0 rfl (lv_at hl 0 rfl) ?_
    refine lv_iload_n hx hb d_M_lost_1 rfl (lv_at hl 1 rfl) ?_
    refine ea_callR (As := [.int ((nI ln))]) (rest := []) (r := 0) ⟨hx, hb, hml, hown, hts⟩ hK hP rfl rfl (c_M_bad0 l D q cI cJ w v hL) ⟨kl_M_41, kn_M_bad, ks_M_bad, ki_M, kc_M_bad⟩ kd_M_bad (by decide) ⟨Nat.le_of_ble_eq_true rfl, Nat.le_of_ble_eq_true rfl⟩ hl.1 rfl (Nat.le_of_ble_eq_true rfl) d_M_lost_2 ⟨Nat.le_of_ble_eq_true rfl, Nat.le_of_ble_eq_true rfl⟩ ?_
    refine lv_if_eq (tgt := 10) hx hb d_M_lost_5 (by decide) (fun _ => ?_) (fun c9 => absurd (rfl) c9)
    refine lv_aload_n hx hb d_M_lost_10 rfl (lv_at hl 0 rfl) ?_
    refine lv_iload_n hx hb d_M_lost_11 rfl (lv_at hl 1 rfl) ?_
    refine ea_callR (As := [.int ((nI ln))]) (rest := []) (r := (nI (ea_tp (σ.1 ln)))) ⟨hx, hb, hml, hown, hts⟩ hK hP rfl rfl (c_M_greatest l D q cI cJ w hw σ hok v hR ln hln) ⟨kl_M_29, kn_M_greatest, ks_M_greatest, ki_M, kc_M_greatest⟩ kd_M_greatest (by decide) ⟨Nat.le_of_ble_eq_true rfl, Nat.le_of_ble_eq_true rfl⟩ hl.1 rfl (Nat.le_of_ble_eq_true rfl) d_M_lost_12 ⟨Nat.le_of_ble_eq_true rfl, Nat.le_of_ble_eq_true rfl⟩ ?_
    refine lv_aload_n hx hb d_M_lost_15 rfl (lv_at hl 0 rfl) ?_
    refine va_get (ci := 1) (C := R_M) (T := F_M) (N := 6) hx hb hts i_M hown hK hP 0 rfl rfl 0 (by decide) (hts _ kf_M_window) (fun _ h => h) rfl d_M_lost_16 ?_
    refine lv_isub hx hb d_M_lost_19 ?_
    refine ea_ti (y := (ea_I (((ea_tp (σ.1 ln)) : Int) - (w : Int)))) (ea_sub) ?_
    refine lv_istore_n (lv' := [(2, .int ((ea_I (((ea_tp (σ.1 ln)) : Int) - (w : Int))))), (0, .ref ((q 0))), (1, .int ((nI ln)))]) hx hb d_M_lost_20 rfl hl (by decide) rfl (fun ls hl => ?_)
    refine lv_iload_n hx hb d_M_lost_21 rfl (lv_at hl 0 rfl) ?_
    refine lv_if_ge (tgt := 29) hx hb d_M_lost_22 (by decide) (fun c1 => ?_) (fun c1 => ?_)
    · have c1 := (ea_le' 0 (((ea_tp (σ.1 ln)) : Int) - (w : Int)) rfl rfl (by omega) (by omega)).mp c1
      refine lv_iload_n hx hb d_M_lost_29 rfl (lv_at hl 0 rfl) ?_
      refine ea_ti (y := (nI ((ea_tp (σ.1 ln)) - w) - nI ((ns.take 0).countP (fun x => decide (x ≤ ((ea_tp (σ.1 ln)) - w)))))) ((show ea_I _ = nI ((ea_tp (σ.1 ln)) - w) - nI 0 by rw [pk_sub (Nat.zero_le _), Nat.sub_zero, ea_In]; exact congrArg ea_I (by omega))) ?_
      refine lv_istore_n (lv' := [(3, .int ((nI ((ea_tp (σ.1 ln)) - w) - nI ((ns.take 0).countP (fun x => decide (x ≤ ((ea_tp (σ.1 ln)) - w))))))), (2, .int ((ea_I (((ea_tp (σ.1 ln)) : Int) - (w : Int))))), (0, .ref ((q 0))), (1, .int ((nI ln)))]) hx hb d_M_lost_30 rfl hl (by decide) rfl (fun ls hl => ?_)
      refine lv_iconst (v := (nI 0)) hx hb d_M_lost_31 (by decide) ?_
      refine lv_istore (lv' := [(4, .int ((nI 0))), (3, .int ((nI ((ea_tp (σ.1 ln)) - w) - nI ((ns.take 0).countP (fun x => decide (x ≤ ((ea_tp (σ.1 ln)) - w))))))), (2, .int ((ea_I (((ea_tp (σ.1 ln)) : Int) - (w : Int))))), (0, .ref ((q 0))), (1, .int ((nI ln)))]) hx hb d_M_lost_32 hl (by decide) rfl (fun ls hl => ?_)
      exact loop ns.length 0 ls (by omega) (lv_sub hl [3, 4, 2, 1, 0] rfl)
    · have c1 := mt (ea_le' 0 (((ea_tp (σ.1 ln)) : Int) - (w : Int)) rfl rfl (by omega) (by omega)).mpr c1
      refine lv_iconst (v := 0) hx hb d_M_lost_25 (by decide) ?_
      refine ea_ti (y := (nI ((ea_tp (σ.1 ln)) - w) - nI ((ns.take 0).countP (fun x => decide (x ≤ ((ea_tp (σ.1 ln)) - w)))))) (show (0 : Int32) = nI ((ea_tp (σ.1 ln)) - w) - nI 0 by rw [show ((ea_tp (σ.1 ln)) - w) = 0 by omega]; decide) ?_
      refine lv_goto (tgt := 30) hx hb d_M_lost_26 (by decide) ?_
      refine lv_istore_n (lv' := [(3, .int ((nI ((ea_tp (σ.1 ln)) - w) - nI ((ns.take 0).countP (fun x => decide (x ≤ ((ea_tp (σ.1 ln)) - w))))))), (2, .int ((ea_I (((ea_tp (σ.1 ln)) : Int) - (w : Int))))), (0, .ref ((q 0))), (1, .int ((nI ln)))]) hx hb d_M_lost_30 rfl hl (by decide) rfl (fun ls hl => ?_)
      refine lv_iconst (v := (nI 0)) hx hb d_M_lost_31 (by decide) ?_
      refine lv_istore (lv' := [(4, .int ((nI 0))), (3, .int ((nI ((ea_tp (σ.1 ln)) - w) - nI ((ns.take 0).countP (fun x => decide (x ≤ ((ea_tp (σ.1 ln)) - w))))))), (2, .int ((ea_I (((ea_tp (σ.1 ln)) : Int) - (w : Int))))), (0, .ref ((q 0))), (1, .int ((nI ln)))]) hx hb d_M_lost_32 hl (by decide) rfl (fun ls hl => ?_)
      exact loop ns.length 0 ls (by omega) (lv_sub hl [3, 4, 2, 1, 0] rfl)
  · rw [show sp_lost w σ x = -1 by unfold sp_lost; rw [if_neg hL]]
    refine ea_start (by decide) (Nat.le_of_ble_eq_true rfl) ?_
    intro p e s m below meth c ls hx hb hr hlocks hml hown hts hnm hB hl
    have hown : s.vm.findClass R_M = some m.cls := hown
    obtain ⟨hP, hK⟩ := hB
    have hl : lv_has ls 5 [(0, .ref ((q 0))), (1, .int x)] := hl
    refine lv_aload_n hx hb d_M_lost_0 rfl (lv_at hl 0 rfl) ?_
    refine lv_iload_n hx hb d_M_lost_1 rfl (lv_at hl 1 rfl) ?_
    refine ea_callR (As := [.int x]) (rest := []) (r := 1) ⟨hx, hb, hml, hown, hts⟩ hK hP rfl rfl (c_M_bad1 l D q cI cJ w v hL) ⟨kl_M_41, kn_M_bad, ks_M_bad, ki_M, kc_M_bad⟩ kd_M_bad (by decide) ⟨Nat.le_of_ble_eq_true rfl, Nat.le_of_ble_eq_true rfl⟩ hl.1 rfl (Nat.le_of_ble_eq_true rfl) d_M_lost_2 ⟨Nat.le_of_ble_eq_true rfl, Nat.le_of_ble_eq_true rfl⟩ ?_
    refine lv_if_eq (tgt := 10) hx hb d_M_lost_5 (by decide) (fun c9 => absurd c9 (by decide)) (fun _ => ?_)
    refine lv_iconst (v := (-1)) hx hb d_M_lost_8 (by decide) ?_
    exact ea_retI hx hb hr hlocks (rfl) d_M_lost_9
set_option maxHeartbeats 4000000 in
set_option maxRecDepth 100000 in
theorem c_M_gap (l : Launch) (D : va_G) (q : Nat → Nat) (cI cJ : ClassId) (w : Nat) (hw : 4 ≤ w ∧ w ≤ 64) (σ : ea_S) (hok : ea_ok σ) (v : ea_MS) (hR : ea_RM σ v) (x : Int32) : Met l y_M_gap (.code y_M_gap b_M_gap 4 (some .int) :: ea_tb) (ea_rm 1) (va_Pc [.ref ((q 0)), .int x] (ea_B D (ea_ty cI cJ) (ea_wM q cI (nI w) v))) (QcRead (sp_gap w σ x)) 0 0 (fun _ => False) := by
  by_cases hL : ea_isL x
  · obtain ⟨ln, hln, rfl, hnx⟩ := ea_isL_n hL
    rw [show sp_gap w σ (nI ln) = nI (ea_gp (σ.1 ln) (ea_tp (σ.1 ln)) (min w (ea_tp (σ.1 ln)) - 1) 1) by unfold sp_gap; rw [if_pos hL, hnx]]
    refine ea_start (by decide) (Nat.le_of_ble_eq_true rfl) ?_
    intro p e s m below meth c ls hx hb hr hlocks hml hown hts hnm hB hl
    have hown : s.vm.findClass R_M = some m.cls := hown
    obtain ⟨hP, hK⟩ := hB
    have hl : lv_has ls 4 [(0, .ref ((q 0))), (1, .int ((nI ln)))] := hl
    obtain ⟨⟨ns, hperm, hma, hnu⟩, hsf, hhd, hvd⟩ := hR ln hln
    have hzo := (hok ln hln).1
    have h15 := ea_tp15 hzo
    have hlen60 := hzo.2.2.1
    have hnl : ns.length = (σ.1 ln).length := hperm.length_eq
    have htp : ea_tp ns = ea_tp (σ.1 ln) := ea_tp_perm hperm
    have hn31 : ∀ i, i < ns.length → ns.getD i 0 < 2 ^ 31 := fun i hi => by have := ea_tp_le (show ns.getD i 0 ∈ ns by rw [ea_gd hi]; exact List.getElem_mem hi); omega
    generalize hG : (ea_gp (σ.1 ln) (ea_tp (σ.1 ln)) (min w (ea_tp (σ.1 ln)) - 1) 1) = G
    have loop : ∀ (g k : Nat) (ls : Array Slot), 1 ≤ k → k ≤ 64 → g = min w (ea_tp (σ.1 ln)) - k → ea_gp (σ.1 ln) (ea_tp (σ.1 ln)) g k = G → lv_has ls 4 [(0, .ref ((q 0))), (1, .int ((nI ln))), (2, .int ((nI (ea_tp (σ.1 ln))))), (3, .int ((ea_I (((ea_tp (σ.1 ln)) : Int) - (k : Int)))))] → W p l e (ea_rm 1) s m [.ref ((q 0)), .int ((nI ln))].toArray below meth c s.heap [] 0 0 (MQ below (QcRead (nI G)) [.ref ((q 0)), .int ((nI ln))].toArray s 0 0 (fun _ => False)) (F0 m 20 ls []) := by
      intro g
      induction g with
      | zero =>
        intro k ls hk1 hk64 hg hgp hl
        refine lv_iload_n hx hb d_M_gap_20 rfl (lv_at hl 3 rfl) ?_
        refine lv_iload_n hx hb d_M_gap_21 rfl (lv_at hl 2 rfl) ?_
        refine lv_aload_n hx hb d_M_gap_22 rfl (lv_at hl 0 rfl) ?_
        refine va_get (ci := 1) (C := R_M) (T := F_M) (N := 6) hx hb hts i_M hown hK hP 0 rfl rfl 0 (by decide) (hts _ kf_M_window) (fun _ h => h) rfl d_M_gap_23 ?_
        refine lv_isub hx hb d_M_gap_26 ?_
        refine ea_ti (y := (ea_I (((ea_tp (σ.1 ln)) : Int) - (w : Int)))) (ea_sub) ?_
        refine lv_iconst (v := 1) hx hb d_M_gap_27 (by decide) ?_
        refine lv_iadd hx hb d_M_gap_28 ?_
        refine ea_ti (y := (ea_I (((ea_tp (σ.1 ln)) : Int) - (w : Int) + 1))) (ea_Iadd _ 1) ?_
        refine lv_icmp_lt (tgt := 54) hx hb d_M_gap_29 (by decide) (fun c1 => ?_) (fun c1 => ?_)
        · refine lv_iconst (v := 0) hx hb d_M_gap_54 (by decide) ?_
          exact ea_retI hx hb hr hlocks (by rw [← hgp]; rfl) d_M_gap_55
        · have c1 := mt (ea_lt' (((ea_tp (σ.1 ln)) : Int) - (k : Int)) (((ea_tp (σ.1 ln)) : Int) - (w : Int) + 1) rfl rfl (by omega) (by omega)).mpr c1
          refine lv_iload_n hx hb d_M_gap_32 rfl (lv_at hl 3 rfl) ?_
          refine lv_iconst (v := 1) hx hb d_M_gap_33 (by decide) ?_
          refine lv_icmp_lt (tgt := 54) hx hb d_M_gap_34 (by decide) (fun _ => ?_) (fun c9 => absurd ((ea_lt' (((ea_tp (σ.1 ln)) : Int) - (k : Int)) 1 rfl rfl (by omega) (by omega)).mpr (by omega)) c9)
          refine lv_iconst (v := 0) hx hb d_M_gap_54 (by decide) ?_
          exact ea_retI hx hb hr hlocks (by rw [← hgp]; rfl) d_M_gap_55
      | succ g ih =>
        intro k ls hk1 hk64 hg hgp hl
        have hmi := ea_mem_I hzo (g := k) (by omega)
        refine lv_iload_n hx hb d_M_gap_20 rfl (lv_at hl 3 rfl) ?_
        refine lv_iload_n hx hb d_M_gap_21 rfl (lv_at hl 2 rfl) ?_
        refine lv_aload_n hx hb d_M_gap_22 rfl (lv_at hl 0 rfl) ?_
        refine va_get (ci := 1) (C := R_M) (T := F_M) (N := 6) hx hb hts i_M hown hK hP 0 rfl rfl 0 (by decide) (hts _ kf_M_window) (fun _ h => h) rfl d_M_gap_23 ?_
        refine lv_isub hx hb d_M_gap_26 ?_
        refine ea_ti (y := (ea_I (((ea_tp (σ.1 ln)) : Int) - (w : Int)))) (ea_sub) ?_
        refine lv_iconst (v := 1) hx hb d_M_gap_27 (by decide) ?_
        refine lv_iadd hx hb d_M_gap_28 ?_
        refine ea_ti (y := (ea_I (((ea_tp (σ.1 ln)) : Int) - (w : Int) + 1))) (ea_Iadd _ 1) ?_
        refine lv_icmp_lt (tgt := 54) hx hb d_M_gap_29 (by decide) (fun c9 => absurd c9 (mt (ea_lt' (((ea_tp (σ.1 ln)) : Int) - (k : Int)) (((ea_tp (σ.1 ln)) : Int) - (w : Int) + 1) rfl rfl (by omega) (by omega)).mp (by omega))) (fun _ => ?_)
        refine lv_iload_n hx hb d_M_gap_32 rfl (lv_at hl 3 rfl) ?_
        refine lv_iconst (v := 1) hx hb d_M_gap_33 (by decide) ?_
        refine lv_icmp_lt (tgt := 54) hx hb d_M_gap_34 (by decide) (fun c9 => absurd c9 (mt (ea_lt' (((ea_tp (σ.1 ln)) : Int) - (k : Int)) 1 rfl rfl (by omega) (by omega)).mp (by omega))) (fun _ => ?_)
        refine lv_aload_n hx hb d_M_gap_37 rfl (lv_at hl 0 rfl) ?_
        refine lv_iload_n hx hb d_M_gap_38 rfl (lv_at hl 1 rfl) ?_
        refine lv_iload_n hx hb d_M_gap_39 rfl (lv_at hl 3 rfl) ?_
        refine ea_callR (As := [.int ((nI ln)), .int ((ea_I (((ea_tp (σ.1 ln)) : Int) - (k : Int))))]) (rest := []) (r := (if (ea_I (((ea_tp (σ.1 ln)) : Int) - (k : Int))) ∈ (σ.1 ln).map nI then 1 else 0)) ⟨hx, hb, hml, hown, hts⟩ hK hP rfl rfl (c_M_holds l D q cI cJ w hw σ hok v hR ln hln (ea_I (((ea_tp (σ.1 ln)) : Int) - (k : Int)))) ⟨kl_M_37, kn_M_holds, ks_M_holds, ki_M, kc_M_holds⟩ kd_M_holds (by decide) ⟨Nat.le_of_ble_eq_true rfl, Nat.le_of_ble_eq_true rfl⟩ hl.1 rfl (Nat.le_of_ble_eq_true rfl) d_M_gap_40 ⟨Nat.le_of_ble_eq_true rfl, Nat.le_of_ble_eq_true rfl⟩ ?_
        refine lv_if_ne (tgt := 48) hx hb d_M_gap_43 (by decide) (fun c2 => ?_) (fun c2 => ?_)
        · have hin : (ea_tp (σ.1 ln)) - k ∈ σ.1 ln := by
            by_cases h : (ea_I (((ea_tp (σ.1 ln)) : Int) - (k : Int))) ∈ (σ.1 ln).map nI
            · exact hmi.mp h
            · exact absurd (if_neg h) c2
          refine lv_iinc (v := (ea_I (((ea_tp (σ.1 ln)) : Int) - ((k + 1 : Nat) : Int)))) (lv' := [(3, .int ((ea_I (((ea_tp (σ.1 ln)) : Int) - ((k + 1 : Nat) : Int))))), (0, .ref ((q 0))), (1, .int ((nI ln))), (2, .int ((nI (ea_tp (σ.1 ln)))))]) hx hb d_M_gap_48 hl (k := 3) rfl ((ea_Iadd _ (-1)).trans (congrArg ea_I (by omega))) (by decide) rfl (fun ls hl => ?_)
          refine lv_goto (tgt := 20) hx hb d_M_gap_51 (by decide) ?_
          exact ih (k + 1) ls (by omega) (by omega) (by omega) ((if_pos hin).symm.trans hgp) (lv_sub hl [1, 2, 3, 0] rfl)
        · have hnin : (ea_tp (σ.1 ln)) - k ∉ σ.1 ln := fun h => absurd c2 (by rw [if_pos (hmi.mpr h)]; decide)
          refine lv_iload_n hx hb d_M_gap_46 rfl (lv_at hl 3 rfl) ?_
          exact ea_retI hx hb hr hlocks ((show (ea_I (((ea_tp (σ.1 ln)) : Int) - (k : Int))) = nI ((ea_tp (σ.1 ln)) - k) by rw [ea_In]; exact congrArg ea_I (by omega)).trans (congrArg nI ((if_neg hnin).symm.trans hgp))) d_M_gap_47
    refine lv_aload_n hx hb d_M_gap_0 rfl (lv_at hl 0 rfl) ?_
    refine lv_iload_n hx hb d_M_gap_1 rfl (lv_at hl 1 rfl) ?_
    refine ea_callR (As := [.int ((nI ln))]) (rest := []) (r := 0) ⟨hx, hb, hml, hown, hts⟩ hK hP rfl rfl (c_M_bad0 l D q cI cJ w v hL) ⟨kl_M_41, kn_M_bad, ks_M_bad, ki_M, kc_M_bad⟩ kd_M_bad (by decide) ⟨Nat.le_of_ble_eq_true rfl, Nat.le_of_ble_eq_true rfl⟩ hl.1 rfl (Nat.le_of_ble_eq_true rfl) d_M_gap_2 ⟨Nat.le_of_ble_eq_true rfl, Nat.le_of_ble_eq_true rfl⟩ ?_
    refine lv_if_eq (tgt := 10) hx hb d_M_gap_5 (by decide) (fun _ => ?_) (fun c9 => absurd (rfl) c9)
    refine lv_aload_n hx hb d_M_gap_10 rfl (lv_at hl 0 rfl) ?_
    refine lv_iload_n hx hb d_M_gap_11 rfl (lv_at hl 1 rfl) ?_
    refine ea_callR (As := [.int ((nI ln))]) (rest := []) (r := (nI (ea_tp (σ.1 ln)))) ⟨hx, hb, hml, hown, hts⟩ hK hP rfl rfl (c_M_greatest l D q cI cJ w hw σ hok v hR ln hln) ⟨kl_M_29, kn_M_greatest, ks_M_greatest, ki_M, kc_M_greatest⟩ kd_M_greatest (by decide) ⟨Nat.le_of_ble_eq_true rfl, Nat.le_of_ble_eq_true rfl⟩ hl.1 rfl (Nat.le_of_ble_eq_true rfl) d_M_gap_12 ⟨Nat.le_of_ble_eq_true rfl, Nat.le_of_ble_eq_true rfl⟩ ?_
    refine lv_istore_n (lv' := [(2, .int ((nI (ea_tp (σ.1 ln))))), (0, .ref ((q 0))), (1, .int ((nI ln)))]) hx hb d_M_gap_15 rfl hl (by decide) rfl (fun ls hl => ?_)
    refine lv_iload_n hx hb d_M_gap_16 rfl (lv_at hl 0 rfl) ?_
    refine lv_iconst (v := 1) hx hb d_M_gap_17 (by decide) ?_
    refine lv_isub hx hb d_M_gap_18 ?_
    refine ea_ti (y := (ea_I (((ea_tp (σ.1 ln)) : Int) - ((1 : Nat) : Int)))) (by rw [ea_In]; exact ea_Isub _ 1) ?_
    refine lv_istore_n (lv' := [(3, .int ((ea_I (((ea_tp (σ.1 ln)) : Int) - ((1 : Nat) : Int))))), (2, .int ((nI (ea_tp (σ.1 ln))))), (0, .ref ((q 0))), (1, .int ((nI ln)))]) hx hb d_M_gap_19 rfl hl (by decide) rfl (fun ls hl => ?_)
    exact loop _ 1 ls (by omega) (by omega) rfl hG (lv_sub hl [2, 3, 1, 0] rfl)
  · rw [show sp_gap w σ x = -1 by unfold sp_gap; rw [if_neg hL]]
    refine ea_start (by decide) (Nat.le_of_ble_eq_true rfl) ?_
    intro p e s m below meth c ls hx hb hr hlocks hml hown hts hnm hB hl
    have hown : s.vm.findClass R_M = some m.cls := hown
    obtain ⟨hP, hK⟩ := hB
    have hl : lv_has ls 4 [(0, .ref ((q 0))), (1, .int x)] := hl
    refine lv_aload_n hx hb d_M_gap_0 rfl (lv_at hl 0 rfl) ?_
    refine lv_iload_n hx hb d_M_gap_1 rfl (lv_at hl 1 rfl) ?_
    refine ea_callR (As := [.int x]) (rest := []) (r := 1) ⟨hx, hb, hml, hown, hts⟩ hK hP rfl rfl (c_M_bad1 l D q cI cJ w v hL) ⟨kl_M_41, kn_M_bad, ks_M_bad, ki_M, kc_M_bad⟩ kd_M_bad (by decide) ⟨Nat.le_of_ble_eq_true rfl, Nat.le_of_ble_eq_true rfl⟩ hl.1 rfl (Nat.le_of_ble_eq_true rfl) d_M_gap_2 ⟨Nat.le_of_ble_eq_true rfl, Nat.le_of_ble_eq_true rfl⟩ ?_
    refine lv_if_eq (tgt := 10) hx hb d_M_gap_5 (by decide) (fun c9 => absurd c9 (by decide)) (fun _ => ?_)
    refine lv_iconst (v := (-1)) hx hb d_M_gap_8 (by decide) ?_
    exact ea_retI hx hb hr hlocks (rfl) d_M_gap_9
end
section
theorem ea_RM_rekey {σ : ea_S} {nu ma sf hd vd : Nat → Int32} {ln : Nat} (hR : ea_RM σ (nu, ma, sf, hd, vd)) {ma1 : Nat → Int32} (h : ma1 = upd ma ln 0) : ea_RM (va_up σ.1 ln [], σ.2) (nu, ma1, sf, hd, vd) := by
  intro j hj
  obtain ⟨a, b⟩ := hR j hj
  refine ⟨?_, b⟩
  subst h
  by_cases e : j = ln
  · subst e
    show ea_ML (va_up σ.1 j [] j) (upd ma j 0 j) _
    rw [va_up_self, pk_us]
    exact ⟨[], List.Perm.refl _, rfl, fun i hi => absurd hi (Nat.not_lt_zero _)⟩
  · show ea_ML (va_up σ.1 ln [] j) (upd ma ln 0 j) _
    rw [va_up_ne _ _ e, pk_un e]
    exact a
theorem ea_RM_lim {σ : ea_S} {nu ma sf hd vd : Nat → Int32} {ln a b : Nat} (hR : ea_RM σ (nu, ma, sf, hd, vd)) {sf1 hd1 : Nat → Int32} (h1 : sf1 = upd sf ln (nI a)) (h2 : hd1 = upd hd ln (nI b)) : ea_RM (σ.1, va_up σ.2.1 ln a, va_up σ.2.2.1 ln b, σ.2.2.2) (nu, ma, sf1, hd1, vd) := by
  intro j hj
  obtain ⟨a1, b1, b2, b3⟩ := hR j hj
  subst h1 h2
  by_cases e : j = ln
  · subst e
    refine ⟨a1, ?_, ?_, b3⟩
    · show upd sf j (nI a) j = nI (va_up σ.2.1 j a j)
      rw [va_up_self, pk_us]
    · show upd hd j (nI b) j = nI (va_up σ.2.2.1 j b j)
      rw [va_up_self, pk_us]
  · refine ⟨a1, ?_, ?_, b3⟩
    · show upd sf ln (nI a) j = nI (va_up σ.2.1 ln a j)
      rw [va_up_ne _ _ e, pk_un e]
      exact b1
    · show upd hd ln (nI b) j = nI (va_up σ.2.2.1 ln b j)
      rw [va_up_ne _ _ e, pk_un e]
      exact b2
theorem ea_ok_lim {σ : ea_S} {ln a b : Nat} (h : ea_ok σ) (ha : a ≤ 60) (hb : 1 ≤ b ∧ b ≤ 60) : ea_ok (σ.1, va_up σ.2.1 ln a, va_up σ.2.2.1 ln b, σ.2.2.2) := by
  intro j hj
  obtain ⟨h1, h2, h3⟩ := h j hj
  by_cases e : j = ln
  · subst e
    refine ⟨h1, ?_, ?_⟩
    · show 1 ≤ va_up σ.2.2.1 j b j ∧ va_up σ.2.2.1 j b j ≤ 60
      rw [va_up_self]
      exact hb
    · show va_up σ.2.1 j a j ≤ 60
      rw [va_up_self]
      exact ha
  · refine ⟨h1, ?_, ?_⟩
    · show 1 ≤ va_up σ.2.2.1 ln b j ∧ va_up σ.2.2.1 ln b j ≤ 60
      rw [va_up_ne _ _ e]
      exact h2
    · show va_up σ.2.1 ln a j ≤ 60
      rw [va_up_ne _ _ e]
      exact h3
theorem ea_ok_rekey {σ : ea_S} {ln : Nat} (h : ea_ok σ) : ea_ok (va_up σ.1 ln [], σ.2) := by
  intro j hj
  obtain ⟨h1, h2⟩ := h j hj
  refine ⟨?_, h2⟩
  show ea_okL (va_up σ.1 ln [] j)
  by_cases e : j = ln
  · subst e
    rw [va_up_self]
    exact ⟨List.Pairwise.nil, fun x hx => (by cases hx), Nat.zero_le _, Nat.le_refl _⟩
  · rw [va_up_ne _ _ e]
    exact h1
theorem ea_spr {w : Nat} {σ : ea_S} {ln lo : Nat} (hln : ln < 4) (hlo : lo < 256) : sp_receive w σ (nI ln) (nI lo) 1 = (nI (ea_vd w σ ln lo true), ea_ju w σ ln lo true) := by
  have h1 : ea_isL (nI ln) := ⟨nI_pos' (by omega), (nI_leI (b := 3) (by omega) (by omega)).mpr (by omega)⟩
  have h2 : ea_isW (nI lo) := ⟨nI_pos' (by omega), (nI_leI (b := 255) (by omega) (by omega)).mpr (by omega)⟩
  unfold sp_receive
  rw [if_pos h1, if_pos h2, show ea_n (nI ln) = ln from nI_clamp (by omega), show ea_n (nI lo) = lo from nI_clamp (by omega)]
  rfl
set_option maxHeartbeats 4000000 in
set_option maxRecDepth 100000 in
theorem c_M_rekey (l : Launch) (D : va_G) (q : Nat → Nat) (hq : ea_ap 6 q) (cI cJ : ClassId) (w : Nat) (hw : 4 ≤ w ∧ w ≤ 64) (σ : ea_S) (hok : ea_ok σ) (v : ea_MS) (hR : ea_RM σ v) (x : Int32) : Met l y_M_rekey (.code y_M_rekey b_M_rekey 3 (some .int) :: ea_tb) (ea_rm 1) (va_Pc [.ref ((q 0)), .int x] (ea_B D (ea_ty cI cJ) (ea_wM q cI (nI w) v))) (va_Qi (fun (r : Int32) (v' : ea_MS) => r = (sp_rekey σ x).1 ∧ ea_RM (sp_rekey σ x).2 v') (fun v' t => ea_PM D q cI (nI w) v' t.heap) (ea_AX 6 q)) 0 0 (ea_AX 6 q) := by
  obtain ⟨nu, ma, sf, hd, vd⟩ := v
  by_cases hL : ea_isL x
  · obtain ⟨ln, hln, rfl, hnx⟩ := ea_isL_n hL
    rw [show sp_rekey σ (nI ln) = (nI (σ.1 ln).length, (va_up σ.1 ln [], σ.2)) by unfold sp_rekey; rw [if_pos hL, hnx]]
    refine ea_start (by decide) (Nat.le_of_ble_eq_true rfl) ?_
    intro p e s m below meth c ls hx hb hr hlocks hml hown hts hnm hB hl
    have hown : s.vm.findClass R_M = some m.cls := hown
    obtain ⟨hP, hK⟩ := hB
    have hl : lv_has ls 3 [(0, .ref ((q 0))), (1, .int ((nI ln)))] := hl
    have hS : va_S (ea_AX 6 q) s.heap s.heap [] := va_S.rf
    have hD : va_D (ea_AX 6 q) (ea_wM q cI (nI w) (nu, ma, sf, hd, vd)) := ea_DM hq
    obtain ⟨⟨ns, hperm, hma, hnu⟩, hsf, hhd, hvd⟩ := hR ln hln
    have hzo := (hok ln hln).1
    have h15 := ea_tp15 hzo
    have hlen60 := hzo.2.2.1
    have hnl : ns.length = (σ.1 ln).length := hperm.length_eq
    have htp : ea_tp ns = ea_tp (σ.1 ln) := ea_tp_perm hperm
    have hn31 : ∀ i, i < ns.length → ns.getD i 0 < 2 ^ 31 := fun i hi => by have := ea_tp_le (show ns.getD i 0 ∈ ns by rw [ea_gd hi]; exact List.getElem_mem hi); omega
    refine lv_aload_n hx hb d_M_rekey_0 rfl (lv_at hl 0 rfl) ?_
    refine lv_iload_n hx hb d_M_rekey_1 rfl (lv_at hl 1 rfl) ?_
    refine ea_callR (As := [.int ((nI ln))]) (rest := []) (r := 0) ⟨hx, hb, hml, hown, hts⟩ hK hP rfl rfl (c_M_bad0 l D q cI cJ w (nu, ma, sf, hd, vd) hL) ⟨kl_M_41, kn_M_bad, ks_M_bad, ki_M, kc_M_bad⟩ kd_M_bad (by decide) ⟨Nat.le_of_ble_eq_true rfl, Nat.le_of_ble_eq_true rfl⟩ hl.1 rfl (Nat.le_of_ble_eq_true rfl) d_M_rekey_2 ⟨Nat.le_of_ble_eq_true rfl, Nat.le_of_ble_eq_true rfl⟩ ?_
    refine lv_if_eq (tgt := 10) hx hb d_M_rekey_5 (by decide) (fun _ => ?_) (fun c9 => absurd (rfl) c9)
    refine lv_aload_n hx hb d_M_rekey_10 rfl (lv_at hl 0 rfl) ?_
    refine va_get (ci := 1) (C := R_M) (T := F_M) (N := 6) hx hb hts i_M hown hK hP 0 rfl rfl 2 (by decide) (hts _ kf_M_many) (fun _ h => h) rfl d_M_rekey_11 ?_
    refine lv_iload_n hx hb d_M_rekey_14 rfl (lv_at hl 1 rfl) ?_
    refine ea_ild hx hb hK hP 2 0 rfl rfl (ln) (rfl) (hln) (by decide) (v := (nI (σ.1 ln).length)) (hma.trans (congrArg nI hnl)) d_M_rekey_15 ?_
    refine lv_istore_n (lv' := [(2, .int ((nI (σ.1 ln).length))), (0, .ref ((q 0))), (1, .int ((nI ln)))]) hx hb d_M_rekey_16 rfl hl (by decide) rfl (fun ls hl => ?_)
    refine lv_aload_n hx hb d_M_rekey_17 rfl (lv_at hl 1 rfl) ?_
    refine va_get (ci := 1) (C := R_M) (T := F_M) (N := 6) hx hb hts i_M hown hK hP 0 rfl rfl 2 (by decide) (hts _ kf_M_many) (fun _ h => h) rfl d_M_rekey_18 ?_
    refine lv_iload_n hx hb d_M_rekey_21 rfl (lv_at hl 2 rfl) ?_
    refine lv_iconst (v := 0) hx hb d_M_rekey_22 (by decide) ?_
    refine ea_ist hx hb hK hP hD hS 2 0 rfl rfl (ln) (rfl) (hln) (by decide) d_M_rekey_23 (fun ma1 H locs e1 hP hD hS => ?_)
    have hP : va_P D ea_cl (ea_wM q cI (nI w) (nu, ma1, sf, hd, vd)) H := hP
    have hD : va_D (ea_AX 6 q) (ea_wM q cI (nI w) (nu, ma1, sf, hd, vd)) := hD
    have e1 : ma1 = upd ma (ln) (0) := e1
    refine lv_iload_n hx hb d_M_rekey_24 rfl (lv_at hl 0 rfl) ?_
    exact ea_retW ((nu, ma1, sf, hd, vd)) hx hb hr hlocks hS (⟨rfl, ea_RM_rekey hR e1⟩) (hP) d_M_rekey_25
  · rw [show sp_rekey σ x = (-1, σ) by unfold sp_rekey; rw [if_neg hL]]
    refine ea_start (by decide) (Nat.le_of_ble_eq_true rfl) ?_
    intro p e s m below meth c ls hx hb hr hlocks hml hown hts hnm hB hl
    have hown : s.vm.findClass R_M = some m.cls := hown
    obtain ⟨hP, hK⟩ := hB
    have hl : lv_has ls 3 [(0, .ref ((q 0))), (1, .int x)] := hl
    have hS : va_S (ea_AX 6 q) s.heap s.heap [] := va_S.rf
    have hD : va_D (ea_AX 6 q) (ea_wM q cI (nI w) (nu, ma, sf, hd, vd)) := ea_DM hq
    refine lv_aload_n hx hb d_M_rekey_0 rfl (lv_at hl 0 rfl) ?_
    refine lv_iload_n hx hb d_M_rekey_1 rfl (lv_at hl 1 rfl) ?_
    refine ea_callR (As := [.int x]) (rest := []) (r := 1) ⟨hx, hb, hml, hown, hts⟩ hK hP rfl rfl (c_M_bad1 l D q cI cJ w (nu, ma, sf, hd, vd) hL) ⟨kl_M_41, kn_M_bad, ks_M_bad, ki_M, kc_M_bad⟩ kd_M_bad (by decide) ⟨Nat.le_of_ble_eq_true rfl, Nat.le_of_ble_eq_true rfl⟩ hl.1 rfl (Nat.le_of_ble_eq_true rfl) d_M_rekey_2 ⟨Nat.le_of_ble_eq_true rfl, Nat.le_of_ble_eq_true rfl⟩ ?_
    refine lv_if_eq (tgt := 10) hx hb d_M_rekey_5 (by decide) (fun c9 => absurd c9 (by decide)) (fun _ => ?_)
    refine lv_iconst (v := (-1)) hx hb d_M_rekey_8 (by decide) ?_
    exact ea_retW ((nu, ma, sf, hd, vd)) hx hb hr hlocks hS (⟨rfl, hR⟩) (hP) d_M_rekey_9
set_option maxHeartbeats 4000000 in
set_option maxRecDepth 100000 in
theorem c_M_limits (l : Launch) (D : va_G) (q : Nat → Nat) (hq : ea_ap 6 q) (cI cJ : ClassId) (w : Nat) (hw : 4 ≤ w ∧ w ≤ 64) (σ : ea_S) (hok : ea_ok σ) (v : ea_MS) (hR : ea_RM σ v) (x a b : Int32) : Met l y_M_limits (.code y_M_limits b_M_limits 4 (some .int) :: ea_tb) (ea_rm 2) (va_Pc [.ref ((q 0)), .int x, .int a, .int b] (ea_B D (ea_ty cI cJ) (ea_wM q cI (nI w) v))) (va_Qi (fun (r : Int32) (v' : ea_MS) => r = (sp_limits σ x a b).1 ∧ ea_RM (sp_limits σ x a b).2 v') (fun v' t => ea_PM D q cI (nI w) v' t.heap) (ea_AX 6 q)) 0 0 (ea_AX 6 q) := by
  obtain ⟨nu, ma, sf, hd, vd⟩ := v
  by_cases hL : ea_isL x
  · obtain ⟨ln, hln, rfl, hnx⟩ := ea_isL_n hL
    by_cases hb1 : 1 ≤ b
    · by_cases hb2 : b ≤ 60
      · by_cases ha1 : a < 0
        · rw [show sp_limits σ (nI ln) a b = (-3, σ) by unfold sp_limits; rw [if_pos hL, if_pos ⟨hb1, hb2⟩, if_neg (fun h => absurd ha1 (Int32.not_lt.mpr h.1))]]
          refine ea_start (by decide) (Nat.le_of_ble_eq_true rfl) ?_
          intro p e s m below meth c ls hx hb hr hlocks hml hown hts hnm hB hl
          have hown : s.vm.findClass R_M = some m.cls := hown
          obtain ⟨hP, hK⟩ := hB
          have hl : lv_has ls 4 [(0, .ref ((q 0))), (1, .int ((nI ln))), (2, .int a), (3, .int b)] := hl
          have hS : va_S (ea_AX 6 q) s.heap s.heap [] := va_S.rf
          have hD : va_D (ea_AX 6 q) (ea_wM q cI (nI w) (nu, ma, sf, hd, vd)) := ea_DM hq
          refine lv_aload_n hx hb d_M_limits_0 rfl (lv_at hl 0 rfl) ?_
          refine lv_iload_n hx hb d_M_limits_1 rfl (lv_at hl 1 rfl) ?_
          refine ea_callR (As := [.int ((nI ln))]) (rest := []) (r := 0) ⟨hx, hb, hml, hown, hts⟩ hK hP rfl rfl (c_M_bad0 l D q cI cJ w (nu, ma, sf, hd, vd) hL) ⟨kl_M_41, kn_M_bad, ks_M_bad, ki_M, kc_M_bad⟩ kd_M_bad (by decide) ⟨Nat.le_of_ble_eq_true rfl, Nat.le_of_ble_eq_true rfl⟩ hl.1 rfl (Nat.le_of_ble_eq_true rfl) d_M_limits_2 ⟨Nat.le_of_ble_eq_true rfl, Nat.le_of_ble_eq_true rfl⟩ ?_
          refine lv_if_eq (tgt := 10) hx hb d_M_limits_5 (by decide) (fun _ => ?_) (fun c9 => absurd (rfl) c9)
          refine lv_iload_n hx hb d_M_limits_10 rfl (lv_at hl 3 rfl) ?_
          refine lv_iconst (v := 1) hx hb d_M_limits_11 (by decide) ?_
          refine lv_icmp_lt (tgt := 21) hx hb d_M_limits_12 (by decide) (fun c9 => absurd c9 (Int32.not_lt.mpr hb1)) (fun _ => ?_)
          refine lv_iload_n hx hb d_M_limits_15 rfl (lv_at hl 3 rfl) ?_
          refine lv_bipush (v := 60) hx hb d_M_limits_16 (by decide) ?_
          refine lv_icmp_le (tgt := 24) hx hb d_M_limits_18 (by decide) (fun _ => ?_) (fun c9 => absurd (hb2) c9)
          refine lv_iload_n hx hb d_M_limits_24 rfl (lv_at hl 2 rfl) ?_
          refine lv_if_lt (tgt := 33) hx hb d_M_limits_25 (by decide) (fun _ => ?_) (fun c9 => absurd (ha1) c9)
          refine lv_bipush (v := (-3)) hx hb d_M_limits_33 (by decide) ?_
          exact ea_retW ((nu, ma, sf, hd, vd)) hx hb hr hlocks hS (⟨rfl, hR⟩) (hP) d_M_limits_35
        · by_cases ha2 : a ≤ b
          · obtain ⟨bn, hbn, rfl⟩ := nI_of2 (x := b) (M := 60) (n := 60) (by decide) (fun h => absurd (Int32.lt_of_le_of_lt hb1 h) (by decide)) hb2
            obtain ⟨an, han31, rfl⟩ := nI_of (x := a) ha1
            have hbn1 : 1 ≤ bn := (nI_leI (a := 1) (by omega) (by omega)).mp hb1
            have hab : an ≤ bn := (nI_leI (by omega) (by omega)).mp ha2
            rw [show sp_limits σ (nI ln) (nI an) (nI bn) = ((if bn ≤ (σ.1 ln).length then 1 else 0), (σ.1, va_up σ.2.1 ln an, va_up σ.2.2.1 ln bn, σ.2.2.2)) by unfold sp_limits; rw [if_pos hL, if_pos ⟨hb1, hb2⟩, if_pos ⟨Int32.not_lt.mp ha1, ha2⟩, hnx, show ea_n (nI bn) = bn from nI_clamp (by omega), show ea_n (nI an) = an from nI_clamp (by omega)]]
            refine ea_start (by decide) (Nat.le_of_ble_eq_true rfl) ?_
            intro p e s m below meth c ls hx hb hr hlocks hml hown hts hnm hB hl
            have hown : s.vm.findClass R_M = some m.cls := hown
            obtain ⟨hP, hK⟩ := hB
            have hl : lv_has ls 4 [(0, .ref ((q 0))), (1, .int ((nI ln))), (2, .int ((nI an))), (3, .int ((nI bn)))] := hl
            have hS : va_S (ea_AX 6 q) s.heap s.heap [] := va_S.rf
            have hD : va_D (ea_AX 6 q) (ea_wM q cI (nI w) (nu, ma, sf, hd, vd)) := ea_DM hq
            obtain ⟨⟨ns, hperm, hma, hnu⟩, hsf, hhd, hvd⟩ := hR ln hln
            have hzo := (hok ln hln).1
            have h15 := ea_tp15 hzo
            have hlen60 := hzo.2.2.1
            have hnl : ns.length = (σ.1 ln).length := hperm.length_eq
            have htp : ea_tp ns = ea_tp (σ.1 ln) := ea_tp_perm hperm
            have hn31 : ∀ i, i < ns.length → ns.getD i 0 < 2 ^ 31 := fun i hi => by have := ea_tp_le (show ns.getD i 0 ∈ ns by rw [ea_gd hi]; exact List.getElem_mem hi); omega
            refine lv_aload_n hx hb d_M_limits_0 rfl (lv_at hl 0 rfl) ?_
            refine lv_iload_n hx hb d_M_limits_1 rfl (lv_at hl 1 rfl) ?_
            refine ea_callR (As := [.int ((nI ln))]) (rest := []) (r := 0) ⟨hx, hb, hml, hown, hts⟩ hK hP rfl rfl (c_M_bad0 l D q cI cJ w (nu, ma, sf, hd, vd) hL) ⟨kl_M_41, kn_M_bad, ks_M_bad, ki_M, kc_M_bad⟩ kd_M_bad (by decide) ⟨Nat.le_of_ble_eq_true rfl, Nat.le_of_ble_eq_true rfl⟩ hl.1 rfl (Nat.le_of_ble_eq_true rfl) d_M_limits_2 ⟨Nat.le_of_ble_eq_true rfl, Nat.le_of_ble_eq_true rfl⟩ ?_
            refine lv_if_eq (tgt := 10) hx hb d_M_limits_5 (by decide) (fun _ => ?_) (fun c9 => absurd (rfl) c9)
            refine lv_iload_n hx hb d_M_limits_10 rfl (lv_at hl 3 rfl) ?_
            refine lv_iconst (v := 1) hx hb d_M_limits_11 (by decide) ?_
            refine lv_icmp_lt (tgt := 21) hx hb d_M_limits_12 (by decide) (fun c9 => absurd c9 (Int32.not_lt.mpr hb1)) (fun _ => ?_)
            refine lv_iload_n hx hb d_M_limits_15 rfl (lv_at hl 3 rfl) ?_
            refine lv_bipush (v := 60) hx hb d_M_limits_16 (by decide) ?_
            refine lv_icmp_le (tgt := 24) hx hb d_M_limits_18 (by decide) (fun _ => ?_) (fun c9 => absurd (hb2) c9)
            refine lv_iload_n hx hb d_M_limits_24 rfl (lv_at hl 2 rfl) ?_
            refine lv_if_lt (tgt := 33) hx hb d_M_limits_25 (by decide) (fun c9 => absurd c9 (ha1)) (fun _ => ?_)
            refine lv_iload_n hx hb d_M_limits_28 rfl (lv_at hl 2 rfl) ?_
            refine lv_iload_n hx hb d_M_limits_29 rfl (lv_at hl 3 rfl) ?_
            refine lv_icmp_le (tgt := 36) hx hb d_M_limits_30 (by decide) (fun _ => ?_) (fun c9 => absurd (ha2) c9)
            refine lv_aload_n hx hb d_M_limits_36 rfl (lv_at hl 0 rfl) ?_
            refine va_get (ci := 1) (C := R_M) (T := F_M) (N := 6) hx hb hts i_M hown hK hP 0 rfl rfl 3 (by decide) (hts _ kf_M_soft) (fun _ h => h) rfl d_M_limits_37 ?_
            refine lv_iload_n hx hb d_M_limits_40 rfl (lv_at hl 1 rfl) ?_
            refine lv_iload_n hx hb d_M_limits_41 rfl (lv_at hl 2 rfl) ?_
            refine ea_ist hx hb hK hP hD hS 3 0 rfl rfl (ln) (rfl) (hln) (by decide) d_M_limits_42 (fun sf1 H locs e1 hP hD hS => ?_)
            have hP : va_P D ea_cl (ea_wM q cI (nI w) (nu, ma, sf1, hd, vd)) H := hP
            have hD : va_D (ea_AX 6 q) (ea_wM q cI (nI w) (nu, ma, sf1, hd, vd)) := hD
            have e1 : sf1 = upd sf (ln) ((nI an)) := e1
            refine lv_aload_n hx hb d_M_limits_43 rfl (lv_at hl 0 rfl) ?_
            refine va_get (ci := 1) (C := R_M) (T := F_M) (N := 6) hx hb hts i_M hown hK hP 0 rfl rfl 4 (by decide) (hts _ kf_M_hard) (fun _ h => h) rfl d_M_limits_44 ?_
            refine lv_iload_n hx hb d_M_limits_47 rfl (lv_at hl 1 rfl) ?_
            refine lv_iload_n hx hb d_M_limits_48 rfl (lv_at hl 3 rfl) ?_
            refine ea_ist hx hb hK hP hD hS 4 0 rfl rfl (ln) (rfl) (hln) (by decide) d_M_limits_49 (fun hd1 H locs e2 hP hD hS => ?_)
            have hP : va_P D ea_cl (ea_wM q cI (nI w) (nu, ma, sf1, hd1, vd)) H := hP
            have hD : va_D (ea_AX 6 q) (ea_wM q cI (nI w) (nu, ma, sf1, hd1, vd)) := hD
            have e2 : hd1 = upd hd (ln) ((nI bn)) := e2
            refine lv_aload_n hx hb d_M_limits_50 rfl (lv_at hl 0 rfl) ?_
            refine lv_iload_n hx hb d_M_limits_51 rfl (lv_at hl 1 rfl) ?_
            refine ea_callR (As := [.int ((nI ln))]) (rest := []) (r := (sp_dead (σ.1, va_up σ.2.1 ln an, va_up σ.2.2.1 ln bn, σ.2.2.2) (nI ln))) ⟨hx, hb, hml, hown, hts⟩ hK hP rfl rfl (c_M_dead l D q cI cJ w hw (σ.1, va_up σ.2.1 ln an, va_up σ.2.2.1 ln bn, σ.2.2.2) (ea_ok_lim hok (by omega) ⟨hbn1, hbn⟩) (nu, ma, sf1, hd1, vd) (ea_RM_lim hR e1 e2) (nI ln)) ⟨kl_M_52, kn_M_dead, ks_M_dead, ki_M, kc_M_dead⟩ kd_M_dead (by decide) ⟨Nat.le_of_ble_eq_true rfl, Nat.le_of_ble_eq_true rfl⟩ hl.1 rfl (Nat.le_of_ble_eq_true rfl) d_M_limits_52 ⟨Nat.le_of_ble_eq_true rfl, Nat.le_of_ble_eq_true rfl⟩ ?_
            exact ea_retW ((nu, ma, sf1, hd1, vd)) hx hb hr hlocks hS (⟨by unfold sp_dead; rw [if_pos hL, hnx]; show (if va_up σ.2.2.1 ln bn ln ≤ _ then (1 : Int32) else 0) = _; rw [va_up_self], ea_RM_lim hR e1 e2⟩) (hP) d_M_limits_55
          · rw [show sp_limits σ (nI ln) a b = (-3, σ) by unfold sp_limits; rw [if_pos hL, if_pos ⟨hb1, hb2⟩, if_neg (fun h => ha2 h.2)]]
            refine ea_start (by decide) (Nat.le_of_ble_eq_true rfl) ?_
            intro p e s m below meth c ls hx hb hr hlocks hml hown hts hnm hB hl
            have hown : s.vm.findClass R_M = some m.cls := hown
            obtain ⟨hP, hK⟩ := hB
            have hl : lv_has ls 4 [(0, .ref ((q 0))), (1, .int ((nI ln))), (2, .int a), (3, .int b)] := hl
            have hS : va_S (ea_AX 6 q) s.heap s.heap [] := va_S.rf
            have hD : va_D (ea_AX 6 q) (ea_wM q cI (nI w) (nu, ma, sf, hd, vd)) := ea_DM hq
            refine lv_aload_n hx hb d_M_limits_0 rfl (lv_at hl 0 rfl) ?_
            refine lv_iload_n hx hb d_M_limits_1 rfl (lv_at hl 1 rfl) ?_
            refine ea_callR (As := [.int ((nI ln))]) (rest := []) (r := 0) ⟨hx, hb, hml, hown, hts⟩ hK hP rfl rfl (c_M_bad0 l D q cI cJ w (nu, ma, sf, hd, vd) hL) ⟨kl_M_41, kn_M_bad, ks_M_bad, ki_M, kc_M_bad⟩ kd_M_bad (by decide) ⟨Nat.le_of_ble_eq_true rfl, Nat.le_of_ble_eq_true rfl⟩ hl.1 rfl (Nat.le_of_ble_eq_true rfl) d_M_limits_2 ⟨Nat.le_of_ble_eq_true rfl, Nat.le_of_ble_eq_true rfl⟩ ?_
            refine lv_if_eq (tgt := 10) hx hb d_M_limits_5 (by decide) (fun _ => ?_) (fun c9 => absurd (rfl) c9)
            refine lv_iload_n hx hb d_M_limits_10 rfl (lv_at hl 3 rfl) ?_
            refine lv_iconst (v := 1) hx hb d_M_limits_11 (by decide) ?_
            refine lv_icmp_lt (tgt := 21) hx hb d_M_limits_12 (by decide) (fun c9 => absurd c9 (Int32.not_lt.mpr hb1)) (fun _ => ?_)
            refine lv_iload_n hx hb d_M_limits_15 rfl (lv_at hl 3 rfl) ?_
            refine lv_bipush (v := 60) hx hb d_M_limits_16 (by decide) ?_
            refine lv_icmp_le (tgt := 24) hx hb d_M_limits_18 (by decide) (fun _ => ?_) (fun c9 => absurd (hb2) c9)
            refine lv_iload_n hx hb d_M_limits_24 rfl (lv_at hl 2 rfl) ?_
            refine lv_if_lt (tgt := 33) hx hb d_M_limits_25 (by decide) (fun c9 => absurd c9 (ha1)) (fun _ => ?_)
            refine lv_iload_n hx hb d_M_limits_28 rfl (lv_at hl 2 rfl) ?_
            refine lv_iload_n hx hb d_M_limits_29 rfl (lv_at hl 3 rfl) ?_
            refine lv_icmp_le (tgt := 36) hx hb d_M_limits_30 (by decide) (fun c9 => absurd c9 (ha2)) (fun _ => ?_)
            refine lv_bipush (v := (-3)) hx hb d_M_limits_33 (by decide) ?_
            exact ea_retW ((nu, ma, sf, hd, vd)) hx hb hr hlocks hS (⟨rfl, hR⟩) (hP) d_M_limits_35
      · rw [show sp_limits σ (nI ln) a b = (-2, σ) by unfold sp_limits; rw [if_pos hL, if_neg (fun h => hb2 h.2)]]
        refine ea_start (by decide) (Nat.le_of_ble_eq_true rfl) ?_
        intro p e s m below meth c ls hx hb hr hlocks hml hown hts hnm hB hl
        have hown : s.vm.findClass R_M = some m.cls := hown
        obtain ⟨hP, hK⟩ := hB
        have hl : lv_has ls 4 [(0, .ref ((q 0))), (1, .int ((nI ln))), (2, .int a), (3, .int b)] := hl
        have hS : va_S (ea_AX 6 q) s.heap s.heap [] := va_S.rf
        have hD : va_D (ea_AX 6 q) (ea_wM q cI (nI w) (nu, ma, sf, hd, vd)) := ea_DM hq
        refine lv_aload_n hx hb d_M_limits_0 rfl (lv_at hl 0 rfl) ?_
        refine lv_iload_n hx hb d_M_limits_1 rfl (lv_at hl 1 rfl) ?_
        refine ea_callR (As := [.int ((nI ln))]) (rest := []) (r := 0) ⟨hx, hb, hml, hown, hts⟩ hK hP rfl rfl (c_M_bad0 l D q cI cJ w (nu, ma, sf, hd, vd) hL) ⟨kl_M_41, kn_M_bad, ks_M_bad, ki_M, kc_M_bad⟩ kd_M_bad (by decide) ⟨Nat.le_of_ble_eq_true rfl, Nat.le_of_ble_eq_true rfl⟩ hl.1 rfl (Nat.le_of_ble_eq_true rfl) d_M_limits_2 ⟨Nat.le_of_ble_eq_true rfl, Nat.le_of_ble_eq_true rfl⟩ ?_
        refine lv_if_eq (tgt := 10) hx hb d_M_limits_5 (by decide) (fun _ => ?_) (fun c9 => absurd (rfl) c9)
        refine lv_iload_n hx hb d_M_limits_10 rfl (lv_at hl 3 rfl) ?_
        refine lv_iconst (v := 1) hx hb d_M_limits_11 (by decide) ?_
        refine lv_icmp_lt (tgt := 21) hx hb d_M_limits_12 (by decide) (fun c9 => absurd c9 (Int32.not_lt.mpr hb1)) (fun _ => ?_)
        refine lv_iload_n hx hb d_M_limits_15 rfl (lv_at hl 3 rfl) ?_
        refine lv_bipush (v := 60) hx hb d_M_limits_16 (by decide) ?_
        refine lv_icmp_le (tgt := 24) hx hb d_M_limits_18 (by decide) (fun c9 => absurd c9 (hb2)) (fun _ => ?_)
        refine lv_bipush (v := (-2)) hx hb d_M_limits_21 (by decide) ?_
        exact ea_retW ((nu, ma, sf, hd, vd)) hx hb hr hlocks hS (⟨rfl, hR⟩) (hP) d_M_limits_23
    · rw [show sp_limits σ (nI ln) a b = (-2, σ) by unfold sp_limits; rw [if_pos hL, if_neg (fun h => hb1 h.1)]]
      refine ea_start (by decide) (Nat.le_of_ble_eq_true rfl) ?_
      intro p e s m below meth c ls hx hb hr hlocks hml hown hts hnm hB hl
      have hown : s.vm.findClass R_M = some m.cls := hown
      obtain ⟨hP, hK⟩ := hB
      have hl : lv_has ls 4 [(0, .ref ((q 0))), (1, .int ((nI ln))), (2, .int a), (3, .int b)] := hl
      have hS : va_S (ea_AX 6 q) s.heap s.heap [] := va_S.rf
      have hD : va_D (ea_AX 6 q) (ea_wM q cI (nI w) (nu, ma, sf, hd, vd)) := ea_DM hq
      refine lv_aload_n hx hb d_M_limits_0 rfl (lv_at hl 0 rfl) ?_
      refine lv_iload_n hx hb d_M_limits_1 rfl (lv_at hl 1 rfl) ?_
      refine ea_callR (As := [.int ((nI ln))]) (rest := []) (r := 0) ⟨hx, hb, hml, hown, hts⟩ hK hP rfl rfl (c_M_bad0 l D q cI cJ w (nu, ma, sf, hd, vd) hL) ⟨kl_M_41, kn_M_bad, ks_M_bad, ki_M, kc_M_bad⟩ kd_M_bad (by decide) ⟨Nat.le_of_ble_eq_true rfl, Nat.le_of_ble_eq_true rfl⟩ hl.1 rfl (Nat.le_of_ble_eq_true rfl) d_M_limits_2 ⟨Nat.le_of_ble_eq_true rfl, Nat.le_of_ble_eq_true rfl⟩ ?_
      refine lv_if_eq (tgt := 10) hx hb d_M_limits_5 (by decide) (fun _ => ?_) (fun c9 => absurd (rfl) c9)
      refine lv_iload_n hx hb d_M_limits_10 rfl (lv_at hl 3 rfl) ?_
      refine lv_iconst (v := 1) hx hb d_M_limits_11 (by decide) ?_
      refine lv_icmp_lt (tgt := 21) hx hb d_M_limits_12 (by decide) (fun _ => ?_) (fun c9 => absurd (Int32.not_le.mp hb1) c9)
      refine lv_bipush (v := (-2)) hx hb d_M_limits_21 (by decide) ?_
      exact ea_retW ((nu, ma, sf, hd, vd)) hx hb hr hlocks hS (⟨rfl, hR⟩) (hP) d_M_limits_23
  · rw [show sp_limits σ x a b = (-1, σ) by unfold sp_limits; rw [if_neg hL]]
    refine ea_start (by decide) (Nat.le_of_ble_eq_true rfl) ?_
    intro p e s m below meth c ls hx hb hr hlocks hml hown hts hnm hB hl
    have hown : s.vm.findClass R_M = some m.cls := hown
    obtain ⟨hP, hK⟩ := hB
    have hl : lv_has ls 4 [(0, .ref ((q 0))), (1, .int x), (2, .int a), (3, .int b)] := hl
    have hS : va_S (ea_AX 6 q) s.heap s.heap [] := va_S.rf
    have hD : va_D (ea_AX 6 q) (ea_wM q cI (nI w) (nu, ma, sf, hd, vd)) := ea_DM hq
    refine lv_aload_n hx hb d_M_limits_0 rfl (lv_at hl 0 rfl) ?_
    refine lv_iload_n hx hb d_M_limits_1 rfl (lv_at hl 1 rfl) ?_
    refine ea_callR (As := [.int x]) (rest := []) (r := 1) ⟨hx, hb, hml, hown, hts⟩ hK hP rfl rfl (c_M_bad1 l D q cI cJ w (nu, ma, sf, hd, vd) hL) ⟨kl_M_41, kn_M_bad, ks_M_bad, ki_M, kc_M_bad⟩ kd_M_bad (by decide) ⟨Nat.le_of_ble_eq_true rfl, Nat.le_of_ble_eq_true rfl⟩ hl.1 rfl (Nat.le_of_ble_eq_true rfl) d_M_limits_2 ⟨Nat.le_of_ble_eq_true rfl, Nat.le_of_ble_eq_true rfl⟩ ?_
    refine lv_if_eq (tgt := 10) hx hb d_M_limits_5 (by decide) (fun c9 => absurd c9 (by decide)) (fun _ => ?_)
    refine lv_iconst (v := (-1)) hx hb d_M_limits_8 (by decide) ?_
    exact ea_retW ((nu, ma, sf, hd, vd)) hx hb hr hlocks hS (⟨rfl, hR⟩) (hP) d_M_limits_9
set_option maxHeartbeats 4000000 in
set_option maxRecDepth 100000 in
theorem c_M_receive (l : Launch) (D : va_G) (q : Nat → Nat) (hq : ea_ap 6 q) (cI cJ : ClassId) (w : Nat) (hw : 4 ≤ w ∧ w ≤ 64) (σ : ea_S) (hok : ea_ok σ) (v : ea_MS) (hR : ea_RM σ v) (x y pr : Int32) : Met l y_M_receive (.code y_M_receive b_M_receive 5 (some .int) :: ea_tb) (ea_rm 3) (va_Pc [.ref ((q 0)), .int x, .int y, .int pr] (ea_B D (ea_ty cI cJ) (ea_wM q cI (nI w) v))) (va_Qi (fun (r : Int32) (v' : ea_MS) => r = (sp_receive w σ x y pr).1 ∧ ea_RM (sp_receive w σ x y pr).2 v') (fun v' t => ea_PM D q cI (nI w) v' t.heap) (ea_AX 6 q)) 0 0 (ea_AX 6 q) := by
  obtain ⟨nu, ma, sf, hd, vd⟩ := v
  by_cases hL : ea_isL x
  · obtain ⟨ln, hln, rfl, hnx⟩ := ea_isL_n hL
    by_cases h1 : y < 0
    · rw [show sp_receive w σ (nI ln) y pr = (-2, σ) by unfold sp_receive; rw [if_pos hL, if_neg (fun h => absurd h1 (Int32.not_lt.mpr h.1))]]
      refine ea_start (by decide) (Nat.le_of_ble_eq_true rfl) ?_
      intro p e s m below meth c ls hx hb hr hlocks hml hown hts hnm hB hl
      have hown : s.vm.findClass R_M = some m.cls := hown
      obtain ⟨hP, hK⟩ := hB
      have hl : lv_has ls 5 [(0, .ref ((q 0))), (1, .int ((nI ln))), (2, .int y), (3, .int pr)] := hl
      have hS : va_S (ea_AX 6 q) s.heap s.heap [] := va_S.rf
      have hD : va_D (ea_AX 6 q) (ea_wM q cI (nI w) (nu, ma, sf, hd, vd)) := ea_DM hq
      refine lv_aload_n hx hb d_M_receive_0 rfl (lv_at hl 0 rfl) ?_
      refine lv_iload_n hx hb d_M_receive_1 rfl (lv_at hl 1 rfl) ?_
      refine ea_callR (As := [.int ((nI ln))]) (rest := []) (r := 0) ⟨hx, hb, hml, hown, hts⟩ hK hP rfl rfl (c_M_bad0 l D q cI cJ w (nu, ma, sf, hd, vd) hL) ⟨kl_M_41, kn_M_bad, ks_M_bad, ki_M, kc_M_bad⟩ kd_M_bad (by decide) ⟨Nat.le_of_ble_eq_true rfl, Nat.le_of_ble_eq_true rfl⟩ hl.1 rfl (Nat.le_of_ble_eq_true rfl) d_M_receive_2 ⟨Nat.le_of_ble_eq_true rfl, Nat.le_of_ble_eq_true rfl⟩ ?_
      refine lv_if_eq (tgt := 10) hx hb d_M_receive_5 (by decide) (fun _ => ?_) (fun c9 => absurd (rfl) c9)
      refine lv_iload_n hx hb d_M_receive_10 rfl (lv_at hl 2 rfl) ?_
      refine lv_if_lt (tgt := 21) hx hb d_M_receive_11 (by decide) (fun _ => ?_) (fun c9 => absurd (h1) c9)
      refine lv_bipush (v := (-2)) hx hb d_M_receive_21 (by decide) ?_
      exact ea_retW ((nu, ma, sf, hd, vd)) hx hb hr hlocks hS (⟨rfl, hR⟩) (hP) d_M_receive_23
    · by_cases h2 : y ≤ 255
      · have hW : ea_isW y := ⟨Int32.not_lt.mp h1, h2⟩
        obtain ⟨lo, hlo, rfl, hny⟩ := ea_isW_n hW
        rw [show sp_receive w σ (nI ln) (nI lo) pr = (nI (ea_vd w σ ln lo (decide (pr ≠ 0))), ea_ju w σ ln lo (decide (pr ≠ 0))) by unfold sp_receive; rw [if_pos hL, if_pos hW, hnx, hny]]
        refine ea_start (by decide) (Nat.le_of_ble_eq_true rfl) ?_
        intro p e s m below meth c ls hx hb hr hlocks hml hown hts hnm hB hl
        have hown : s.vm.findClass R_M = some m.cls := hown
        obtain ⟨hP, hK⟩ := hB
        have hl : lv_has ls 5 [(0, .ref ((q 0))), (1, .int ((nI ln))), (2, .int ((nI lo))), (3, .int pr)] := hl
        have hS : va_S (ea_AX 6 q) s.heap s.heap [] := va_S.rf
        have hD : va_D (ea_AX 6 q) (ea_wM q cI (nI w) (nu, ma, sf, hd, vd)) := ea_DM hq
        refine lv_aload_n hx hb d_M_receive_0 rfl (lv_at hl 0 rfl) ?_
        refine lv_iload_n hx hb d_M_receive_1 rfl (lv_at hl 1 rfl) ?_
        refine ea_callR (As := [.int ((nI ln))]) (rest := []) (r := 0) ⟨hx, hb, hml, hown, hts⟩ hK hP rfl rfl (c_M_bad0 l D q cI cJ w (nu, ma, sf, hd, vd) hL) ⟨kl_M_41, kn_M_bad, ks_M_bad, ki_M, kc_M_bad⟩ kd_M_bad (by decide) ⟨Nat.le_of_ble_eq_true rfl, Nat.le_of_ble_eq_true rfl⟩ hl.1 rfl (Nat.le_of_ble_eq_true rfl) d_M_receive_2 ⟨Nat.le_of_ble_eq_true rfl, Nat.le_of_ble_eq_true rfl⟩ ?_
        refine lv_if_eq (tgt := 10) hx hb d_M_receive_5 (by decide) (fun _ => ?_) (fun c9 => absurd (rfl) c9)
        refine lv_iload_n hx hb d_M_receive_10 rfl (lv_at hl 2 rfl) ?_
        refine lv_if_lt (tgt := 21) hx hb d_M_receive_11 (by decide) (fun c9 => absurd c9 (h1)) (fun _ => ?_)
        refine lv_iload_n hx hb d_M_receive_14 rfl (lv_at hl 2 rfl) ?_
        refine lv_sipush (v := 255) hx hb d_M_receive_15 (by decide) ?_
        refine lv_icmp_le (tgt := 24) hx hb d_M_receive_18 (by decide) (fun _ => ?_) (fun c9 => absurd (h2) c9)
        refine lv_aload_n hx hb d_M_receive_24 rfl (lv_at hl 0 rfl) ?_
        refine lv_iload_n hx hb d_M_receive_25 rfl (lv_at hl 1 rfl) ?_
        refine lv_iload_n hx hb d_M_receive_26 rfl (lv_at hl 2 rfl) ?_
        refine lv_iload_n hx hb d_M_receive_27 rfl (lv_at hl 3 rfl) ?_
        refine ea_callW (As := [.int ((nI ln)), .int ((nI lo)), .int pr]) (rest := []) ⟨hx, hb, hml, hown, hts⟩ hK hP rfl rfl (c_M_verdict l D q hq cI cJ w hw σ hok (nu, ma, sf, hd, vd) hR ln hln lo hlo pr) ⟨kl_M_45, kn_M_verdict, ks_M_verdict, ki_M, kc_M_verdict⟩ kd_M_verdict (by decide) ⟨Nat.le_of_ble_eq_true rfl, Nat.le_of_ble_eq_true rfl⟩ hl.1 rfl (Nat.le_of_ble_eq_true rfl) d_M_receive_28 ⟨Nat.le_of_ble_eq_true rfl, Nat.le_of_ble_eq_true rfl⟩ hS (fun _ h => h) (fun r v1 H locs hpo hPU hz hk hS => ?_)
        obtain ⟨hr1, hR1⟩ := hpo
        obtain ⟨nu1, ma1, sf1, hd1, vd1⟩ := v1
        subst hr1
        have hvb := ea_vd_b w σ ln lo (decide (pr ≠ 0))
        have hP : va_P D ea_cl (ea_wM q cI (nI w) (nu1, ma1, sf1, hd1, vd1)) H := hPU
        have hD : va_D (ea_AX 6 q) (ea_wM q cI (nI w) (nu1, ma1, sf1, hd1, vd1)) := ea_DM hq
        refine lv_istore (lv' := [(4, .int ((nI (ea_vd w σ ln lo (decide (pr ≠ 0)))))), (0, .ref ((q 0))), (1, .int ((nI ln))), (2, .int ((nI lo))), (3, .int pr)]) hx hb d_M_receive_31 hl (by decide) rfl (fun ls hl => ?_)
        refine lv_aload_n hx hb d_M_receive_33 rfl (lv_at hl 1 rfl) ?_
        refine va_get (ci := 1) (C := R_M) (T := F_M) (N := 6) hx hb hts i_M hown hK hP 0 rfl rfl 5 (by decide) (hts _ kf_M_verdicts) (fun _ h => h) rfl d_M_receive_34 ?_
        refine lv_bipush (v := (nI 8)) hx hb d_M_receive_37 (by decide) ?_
        refine lv_iload_n hx hb d_M_receive_39 rfl (lv_at hl 2 rfl) ?_
        refine lv_imul hx hb d_M_receive_40 ?_
        refine ea_ti (y := (nI (8 * ln))) (pk_mul _ _) ?_
        refine lv_iload hx hb d_M_receive_41 (lv_at hl 0 rfl) ?_
        refine lv_iadd hx hb d_M_receive_43 ?_
        refine ea_ti (y := (nI (8 * ln + (ea_vd w σ ln lo (decide (pr ≠ 0)))))) (nI_add _ _) ?_
        refine lv_dup2_11 hx hb d_M_receive_44 rfl rfl ?_
        refine ea_ild hx hb hK hP 5 0 rfl rfl (8 * ln + (ea_vd w σ ln lo (decide (pr ≠ 0)))) (rfl) (by omega) (by decide) (v := (vd1 (8 * ln + (ea_vd w σ ln lo (decide (pr ≠ 0)))))) (rfl) d_M_receive_45 ?_
        refine lv_iconst (v := 1) hx hb d_M_receive_46 (by decide) ?_
        refine lv_iadd hx hb d_M_receive_47 ?_
        refine ea_ist hx hb hK hP hD hS 5 0 rfl rfl (8 * ln + (ea_vd w σ ln lo (decide (pr ≠ 0)))) (rfl) (by omega) (by decide) d_M_receive_48 (fun vd2 H locs e2 hP hD hS => ?_)
        have hP : va_P D ea_cl (ea_wM q cI (nI w) (nu1, ma1, sf1, hd1, vd2)) H := hP
        have hD : va_D (ea_AX 6 q) (ea_wM q cI (nI w) (nu1, ma1, sf1, hd1, vd2)) := hD
        have e2 : vd2 = upd vd1 (8 * ln + (ea_vd w σ ln lo (decide (pr ≠ 0)))) (((vd1 (8 * ln + (ea_vd w σ ln lo (decide (pr ≠ 0))))) + 1)) := e2
        refine lv_iload hx hb d_M_receive_49 (lv_at hl 0 rfl) ?_
        exact ea_retW ((nu1, ma1, sf1, hd1, vd2)) hx hb hr hlocks hS (⟨rfl, ea_RM_cnt hR1 hln hvb e2⟩) (hP) d_M_receive_51
      · rw [show sp_receive w σ (nI ln) y pr = (-2, σ) by unfold sp_receive; rw [if_pos hL, if_neg (fun h => h2 h.2)]]
        refine ea_start (by decide) (Nat.le_of_ble_eq_true rfl) ?_
        intro p e s m below meth c ls hx hb hr hlocks hml hown hts hnm hB hl
        have hown : s.vm.findClass R_M = some m.cls := hown
        obtain ⟨hP, hK⟩ := hB
        have hl : lv_has ls 5 [(0, .ref ((q 0))), (1, .int ((nI ln))), (2, .int y), (3, .int pr)] := hl
        have hS : va_S (ea_AX 6 q) s.heap s.heap [] := va_S.rf
        have hD : va_D (ea_AX 6 q) (ea_wM q cI (nI w) (nu, ma, sf, hd, vd)) := ea_DM hq
        refine lv_aload_n hx hb d_M_receive_0 rfl (lv_at hl 0 rfl) ?_
        refine lv_iload_n hx hb d_M_receive_1 rfl (lv_at hl 1 rfl) ?_
        refine ea_callR (As := [.int ((nI ln))]) (rest := []) (r := 0) ⟨hx, hb, hml, hown, hts⟩ hK hP rfl rfl (c_M_bad0 l D q cI cJ w (nu, ma, sf, hd, vd) hL) ⟨kl_M_41, kn_M_bad, ks_M_bad, ki_M, kc_M_bad⟩ kd_M_bad (by decide) ⟨Nat.le_of_ble_eq_true rfl, Nat.le_of_ble_eq_true rfl⟩ hl.1 rfl (Nat.le_of_ble_eq_true rfl) d_M_receive_2 ⟨Nat.le_of_ble_eq_true rfl, Nat.le_of_ble_eq_true rfl⟩ ?_
        refine lv_if_eq (tgt := 10) hx hb d_M_receive_5 (by decide) (fun _ => ?_) (fun c9 => absurd (rfl) c9)
        refine lv_iload_n hx hb d_M_receive_10 rfl (lv_at hl 2 rfl) ?_
        refine lv_if_lt (tgt := 21) hx hb d_M_receive_11 (by decide) (fun c9 => absurd c9 (h1)) (fun _ => ?_)
        refine lv_iload_n hx hb d_M_receive_14 rfl (lv_at hl 2 rfl) ?_
        refine lv_sipush (v := 255) hx hb d_M_receive_15 (by decide) ?_
        refine lv_icmp_le (tgt := 24) hx hb d_M_receive_18 (by decide) (fun c9 => absurd c9 (h2)) (fun _ => ?_)
        refine lv_bipush (v := (-2)) hx hb d_M_receive_21 (by decide) ?_
        exact ea_retW ((nu, ma, sf, hd, vd)) hx hb hr hlocks hS (⟨rfl, hR⟩) (hP) d_M_receive_23
  · rw [show sp_receive w σ x y pr = (-1, σ) by unfold sp_receive; rw [if_neg hL]]
    refine ea_start (by decide) (Nat.le_of_ble_eq_true rfl) ?_
    intro p e s m below meth c ls hx hb hr hlocks hml hown hts hnm hB hl
    have hown : s.vm.findClass R_M = some m.cls := hown
    obtain ⟨hP, hK⟩ := hB
    have hl : lv_has ls 5 [(0, .ref ((q 0))), (1, .int x), (2, .int y), (3, .int pr)] := hl
    have hS : va_S (ea_AX 6 q) s.heap s.heap [] := va_S.rf
    have hD : va_D (ea_AX 6 q) (ea_wM q cI (nI w) (nu, ma, sf, hd, vd)) := ea_DM hq
    refine lv_aload_n hx hb d_M_receive_0 rfl (lv_at hl 0 rfl) ?_
    refine lv_iload_n hx hb d_M_receive_1 rfl (lv_at hl 1 rfl) ?_
    refine ea_callR (As := [.int x]) (rest := []) (r := 1) ⟨hx, hb, hml, hown, hts⟩ hK hP rfl rfl (c_M_bad1 l D q cI cJ w (nu, ma, sf, hd, vd) hL) ⟨kl_M_41, kn_M_bad, ks_M_bad, ki_M, kc_M_bad⟩ kd_M_bad (by decide) ⟨Nat.le_of_ble_eq_true rfl, Nat.le_of_ble_eq_true rfl⟩ hl.1 rfl (Nat.le_of_ble_eq_true rfl) d_M_receive_2 ⟨Nat.le_of_ble_eq_true rfl, Nat.le_of_ble_eq_true rfl⟩ ?_
    refine lv_if_eq (tgt := 10) hx hb d_M_receive_5 (by decide) (fun c9 => absurd c9 (by decide)) (fun _ => ?_)
    refine lv_iconst (v := (-1)) hx hb d_M_receive_8 (by decide) ?_
    exact ea_retW ((nu, ma, sf, hd, vd)) hx hb hr hlocks hS (⟨rfl, hR⟩) (hP) d_M_receive_9
set_option maxHeartbeats 4000000 in
set_option maxRecDepth 100000 in
theorem c_M_burst (l : Launch) (D : va_G) (q : Nat → Nat) (hq : ea_ap 6 q) (cI cJ : ClassId) (w : Nat) (hw : 4 ≤ w ∧ w ≤ 64) (σ : ea_S) (hok : ea_ok σ) (v : ea_MS) (hR : ea_RM σ v) (x y st ct : Int32) : Met l y_M_burst (.code y_M_burst b_M_burst 8 (some .int) :: ea_tb) (ea_rm 4) (va_Pc [.ref ((q 0)), .int x, .int y, .int st, .int ct] (ea_B D (ea_ty cI cJ) (ea_wM q cI (nI w) v))) (va_Qi (fun (r : Int32) (v' : ea_MS) => r = (sp_burst w σ x y st ct).1 ∧ ea_RM (sp_burst w σ x y st ct).2 v') (fun v' t => ea_PM D q cI (nI w) v' t.heap) (ea_AX 6 q)) 0 0 (ea_AX 6 q) := by
  obtain ⟨nu, ma, sf, hd, vd⟩ := v
  by_cases hL : ea_isL x
  · obtain ⟨ln, hln, rfl, hnx⟩ := ea_isL_n hL
    by_cases h1 : y < 0
    · rw [show sp_burst w σ (nI ln) y st ct = (-2, σ) by unfold sp_burst; rw [if_pos hL, if_neg (fun h => absurd h1 (Int32.not_lt.mpr h.1))]]
      refine ea_start (by decide) (Nat.le_of_ble_eq_true rfl) ?_
      intro p e s m below meth c ls hx hb hr hlocks hml hown hts hnm hB hl
      have hown : s.vm.findClass R_M = some m.cls := hown
      obtain ⟨hP, hK⟩ := hB
      have hl : lv_has ls 8 [(0, .ref ((q 0))), (1, .int ((nI ln))), (2, .int y), (3, .int st), (4, .int ct)] := hl
      have hS : va_S (ea_AX 6 q) s.heap s.heap [] := va_S.rf
      have hD : va_D (ea_AX 6 q) (ea_wM q cI (nI w) (nu, ma, sf, hd, vd)) := ea_DM hq
      refine lv_aload_n hx hb d_M_burst_0 rfl (lv_at hl 0 rfl) ?_
      refine lv_iload_n hx hb d_M_burst_1 rfl (lv_at hl 1 rfl) ?_
      refine ea_callR (As := [.int ((nI ln))]) (rest := []) (r := 0) ⟨hx, hb, hml, hown, hts⟩ hK hP rfl rfl (c_M_bad0 l D q cI cJ w (nu, ma, sf, hd, vd) hL) ⟨kl_M_41, kn_M_bad, ks_M_bad, ki_M, kc_M_bad⟩ kd_M_bad (by decide) ⟨Nat.le_of_ble_eq_true rfl, Nat.le_of_ble_eq_true rfl⟩ hl.1 rfl (Nat.le_of_ble_eq_true rfl) d_M_burst_2 ⟨Nat.le_of_ble_eq_true rfl, Nat.le_of_ble_eq_true rfl⟩ ?_
      refine lv_if_eq (tgt := 10) hx hb d_M_burst_5 (by decide) (fun _ => ?_) (fun c9 => absurd (rfl) c9)
      refine lv_iload_n hx hb d_M_burst_10 rfl (lv_at hl 2 rfl) ?_
      refine lv_if_lt (tgt := 21) hx hb d_M_burst_11 (by decide) (fun _ => ?_) (fun c9 => absurd (h1) c9)
      refine lv_bipush (v := (-2)) hx hb d_M_burst_21 (by decide) ?_
      exact ea_retW ((nu, ma, sf, hd, vd)) hx hb hr hlocks hS (⟨rfl, hR⟩) (hP) d_M_burst_23
    · by_cases h2 : y ≤ 255
      · have hW : ea_isW y := ⟨Int32.not_lt.mp h1, h2⟩
        by_cases hs1 : -64 ≤ st
        · by_cases hs2 : st ≤ 64
          · by_cases hc1 : 1 ≤ ct
            · by_cases hc2 : ct ≤ 40
              · obtain ⟨cn, hcn, rfl⟩ := nI_of2 (x := ct) (M := 40) (n := 40) (by decide) (fun h => absurd (Int32.lt_of_le_of_lt hc1 h) (by decide)) hc2
                rw [show sp_burst w σ (nI ln) y st (nI cn) = ea_bu w σ ln y st cn by unfold sp_burst; rw [if_pos hL, if_pos hW, if_pos ⟨hs1, hs2⟩, if_pos ⟨hc1, hc2⟩, hnx, show ea_n (nI cn) = cn from nI_clamp (by omega)]]
                refine ea_start (by decide) (Nat.le_of_ble_eq_true rfl) ?_
                intro p e s m below meth c ls hx hb hr hlocks hml hown hts hnm hB hl
                have hown : s.vm.findClass R_M = some m.cls := hown
                obtain ⟨hP, hK⟩ := hB
                have hl : lv_has ls 8 [(0, .ref ((q 0))), (1, .int ((nI ln))), (2, .int y), (3, .int st), (4, .int ((nI cn)))] := hl
                have hS : va_S (ea_AX 6 q) s.heap s.heap [] := va_S.rf
                have hD : va_D (ea_AX 6 q) (ea_wM q cI (nI w) (nu, ma, sf, hd, vd)) := ea_DM hq
                have loop : ∀ (g k : Nat) (nu1 ma1 sf1 hd1 vd1 : Nat → Int32) (H : Heap) (locs : List Loc) (ls : Array Slot), k + g = cn → ea_RM (ea_bu w σ ln y st k).2 (nu1, ma1, sf1, hd1, vd1) → va_P D ea_cl (ea_wM q cI (nI w) (nu1, ma1, sf1, hd1, vd1)) H → va_D (ea_AX 6 q) (ea_wM q cI (nI w) (nu1, ma1, sf1, hd1, vd1)) → va_S (ea_AX 6 q) s.heap H locs → lv_has ls 8 [(0, .ref ((q 0))), (1, .int ((nI ln))), (2, .int y), (3, .int st), (4, .int ((nI cn))), (5, .int ((ea_bu w σ ln y st k).1)), (6, .int ((nI k)))] → W p l e (ea_rm 4) s m [.ref ((q 0)), .int ((nI ln)), .int y, .int st, .int ((nI cn))].toArray below meth c H locs 0 0 (MQ below (va_Qi (fun (r : Int32) (v' : ea_MS) => r = (ea_bu w σ ln y st cn).1 ∧ ea_RM (ea_bu w σ ln y st cn).2 v') (fun v' t => ea_PM D q cI (nI w) v' t.heap) (ea_AX 6 q)) [.ref ((q 0)), .int ((nI ln)), .int y, .int st, .int ((nI cn))].toArray s 0 0 (ea_AX 6 q)) (F0 m 61 ls []) := by
                  intro g
                  induction g with
                  | zero =>
                    intro k nu1 ma1 sf1 hd1 vd1 H locs ls hk hR1 hP hD hS hl
                    refine lv_iload hx hb d_M_burst_61 (lv_at hl 6 rfl) ?_
                    refine lv_iload hx hb d_M_burst_63 (lv_at hl 4 rfl) ?_
                    refine lv_icmp_ge (tgt := 101) hx hb d_M_burst_65 (by decide) (fun _ => ?_) (fun c9 => absurd (nI_le (by omega) (by omega)) c9)
                    refine lv_iload hx hb d_M_burst_101 (lv_at hl 5 rfl) ?_
                    exact ea_retW ((nu1, ma1, sf1, hd1, vd1)) hx hb hr hlocks hS (by rw [show cn = k by omega]; exact ⟨rfl, hR1⟩) (hP) d_M_burst_103
                  | succ g ih =>
                    intro k nu1 ma1 sf1 hd1 vd1 H locs ls hk hR1 hP hD hS hl
                    refine lv_iload hx hb d_M_burst_61 (lv_at hl 6 rfl) ?_
                    refine lv_iload hx hb d_M_burst_63 (lv_at hl 4 rfl) ?_
                    refine lv_icmp_ge (tgt := 101) hx hb d_M_burst_65 (by decide) (fun c9 => absurd c9 (nI_ge (by omega) (by omega))) (fun _ => ?_)
                    refine lv_aload_n hx hb d_M_burst_68 rfl (lv_at hl 0 rfl) ?_
                    refine lv_iload_n hx hb d_M_burst_69 rfl (lv_at hl 1 rfl) ?_
                    refine lv_iload_n hx hb d_M_burst_70 rfl (lv_at hl 2 rfl) ?_
                    refine lv_iload hx hb d_M_burst_71 (lv_at hl 6 rfl) ?_
                    refine lv_iload_n hx hb d_M_burst_73 rfl (lv_at hl 3 rfl) ?_
                    refine lv_imul hx hb d_M_burst_74 ?_
                    refine lv_iadd hx hb d_M_burst_75 ?_
                    refine lv_sipush (v := 255) hx hb d_M_burst_76 (by decide) ?_
                    refine lv_iand hx hb d_M_burst_79 ?_
                    refine ea_ti (y := (nI (ea_lk y st k))) ((ea_lk_n y st k).2) ?_
                    refine lv_iconst (v := 1) hx hb d_M_burst_80 (by decide) ?_
                    refine ea_callW (As := [.int ((nI ln)), .int ((nI (ea_lk y st k))), .int 1]) (rest := []) ⟨hx, hb, hml, hown, hts⟩ hK hP rfl rfl (c_M_receive l D q hq cI cJ w hw (ea_bu w σ ln y st k).2 (ea_ok_bu hw.2 hok hln k) (nu1, ma1, sf1, hd1, vd1) hR1 (nI ln) (nI (ea_lk y st k)) 1) ⟨kl_M_49, kn_M_receive, ks_M_receive, ki_M, kc_M_receive⟩ kd_M_receive (by decide) ⟨Nat.le_of_ble_eq_true rfl, Nat.le_of_ble_eq_true rfl⟩ hl.1 rfl (Nat.le_of_ble_eq_true rfl) d_M_burst_81 ⟨Nat.le_of_ble_eq_true rfl, Nat.le_of_ble_eq_true rfl⟩ hS (fun _ h => h) (fun r u2 H locs hpo hPU hz hk9 hS => ?_)
                    rw [ea_spr hln (ea_lk_n y st k).1] at hpo
                    obtain ⟨nu2, ma2, sf2, hd2, vd2⟩ := u2
                    obtain ⟨hr1, hR2⟩ := hpo
                    refine lv_istore (lv' := [(7, .int r), (0, .ref ((q 0))), (1, .int ((nI ln))), (2, .int y), (3, .int st), (4, .int ((nI cn))), (5, .int ((ea_bu w σ ln y st k).1)), (6, .int ((nI k)))]) hx hb d_M_burst_84 hl (by decide) rfl (fun ls hl => ?_)
                    refine lv_iload hx hb d_M_burst_86 (lv_at hl 0 rfl) ?_
                    refine lv_iconst (v := 1) hx hb d_M_burst_88 (by decide) ?_
                    have hP : va_P D ea_cl (ea_wM q cI (nI w) (nu2, ma2, sf2, hd2, vd2)) H := hPU
                    have hvb := ea_vd_b w (ea_bu w σ ln y st k).2 ln (ea_lk y st k) true
                    refine lv_icmp_ne (tgt := 95) hx hb d_M_burst_89 (by decide) (fun c1 => ?_) (fun c1 => ?_)
                    · have hv1 : ¬ ea_vd w (ea_bu w σ ln y st k).2 ln (ea_lk y st k) true = 1 := fun h => c1 (by rw [hr1, h]; rfl)
                      refine lv_iinc (v := (nI (k + 1))) (lv' := [(6, .int ((nI (k + 1)))), (7, .int r), (0, .ref ((q 0))), (1, .int ((nI ln))), (2, .int y), (3, .int st), (4, .int ((nI cn))), (5, .int ((ea_bu w σ ln y st k).1))]) hx hb d_M_burst_95 hl (k := 7) rfl (nI_1 _) (by decide) rfl (fun ls hl => ?_)
                      refine lv_goto (tgt := 61) hx hb d_M_burst_98 (by decide) ?_
                      rw [show (ea_bu w σ ln y st k).1 = (ea_bu w σ ln y st (k + 1)).1 from (if_neg hv1).symm] at hl
                      exact ih (k + 1) nu2 ma2 sf2 hd2 vd2 H locs ls (by omega) hR2 hP (ea_DM hq) hS (lv_sub hl [2, 3, 4, 5, 6, 7, 0] rfl)
                    · have hv1 : ea_vd w (ea_bu w σ ln y st k).2 ln (ea_lk y st k) true = 1 := (nI_eq (by omega) (by omega)).mp (hr1.symm.trans c1)
                      refine lv_iinc (v := (ea_bu w σ ln y st (k + 1)).1) (lv' := [(5, .int ((ea_bu w σ ln y st (k + 1)).1)), (7, .int r), (0, .ref ((q 0))), (1, .int ((nI ln))), (2, .int y), (3, .int st), (4, .int ((nI cn))), (6, .int ((nI k)))]) hx hb d_M_burst_92 hl (k := 6) rfl ((if_pos hv1).symm) (by decide) rfl (fun ls hl => ?_)
                      refine lv_iinc (v := (nI (k + 1))) (lv' := [(6, .int ((nI (k + 1)))), (5, .int ((ea_bu w σ ln y st (k + 1)).1)), (7, .int r), (0, .ref ((q 0))), (1, .int ((nI ln))), (2, .int y), (3, .int st), (4, .int ((nI cn)))]) hx hb d_M_burst_95 hl (k := 7) rfl (nI_1 _) (by decide) rfl (fun ls hl => ?_)
                      refine lv_goto (tgt := 61) hx hb d_M_burst_98 (by decide) ?_
                      exact ih (k + 1) nu2 ma2 sf2 hd2 vd2 H locs ls (by omega) hR2 hP (ea_DM hq) hS (lv_sub hl [3, 4, 5, 6, 7, 1, 0] rfl)
                refine lv_aload_n hx hb d_M_burst_0 rfl (lv_at hl 0 rfl) ?_
                refine lv_iload_n hx hb d_M_burst_1 rfl (lv_at hl 1 rfl) ?_
                refine ea_callR (As := [.int ((nI ln))]) (rest := []) (r := 0) ⟨hx, hb, hml, hown, hts⟩ hK hP rfl rfl (c_M_bad0 l D q cI cJ w (nu, ma, sf, hd, vd) hL) ⟨kl_M_41, kn_M_bad, ks_M_bad, ki_M, kc_M_bad⟩ kd_M_bad (by decide) ⟨Nat.le_of_ble_eq_true rfl, Nat.le_of_ble_eq_true rfl⟩ hl.1 rfl (Nat.le_of_ble_eq_true rfl) d_M_burst_2 ⟨Nat.le_of_ble_eq_true rfl, Nat.le_of_ble_eq_true rfl⟩ ?_
                refine lv_if_eq (tgt := 10) hx hb d_M_burst_5 (by decide) (fun _ => ?_) (fun c9 => absurd (rfl) c9)
                refine lv_iload_n hx hb d_M_burst_10 rfl (lv_at hl 2 rfl) ?_
                refine lv_if_lt (tgt := 21) hx hb d_M_burst_11 (by decide) (fun c9 => absurd c9 (h1)) (fun _ => ?_)
                refine lv_iload_n hx hb d_M_burst_14 rfl (lv_at hl 2 rfl) ?_
                refine lv_sipush (v := 255) hx hb d_M_burst_15 (by decide) ?_
                refine lv_icmp_le (tgt := 24) hx hb d_M_burst_18 (by decide) (fun _ => ?_) (fun c9 => absurd (h2) c9)
                refine lv_iload_n hx hb d_M_burst_24 rfl (lv_at hl 3 rfl) ?_
                refine lv_bipush (v := (-64)) hx hb d_M_burst_25 (by decide) ?_
                refine lv_icmp_lt (tgt := 36) hx hb d_M_burst_27 (by decide) (fun c9 => absurd c9 (Int32.not_lt.mpr hs1)) (fun _ => ?_)
                refine lv_iload_n hx hb d_M_burst_30 rfl (lv_at hl 3 rfl) ?_
                refine lv_bipush (v := 64) hx hb d_M_burst_31 (by decide) ?_
                refine lv_icmp_le (tgt := 39) hx hb d_M_burst_33 (by decide) (fun _ => ?_) (fun c9 => absurd (hs2) c9)
                refine lv_iload hx hb d_M_burst_39 (lv_at hl 4 rfl) ?_
                refine lv_iconst (v := 1) hx hb d_M_burst_41 (by decide) ?_
                refine lv_icmp_lt (tgt := 52) hx hb d_M_burst_42 (by decide) (fun c9 => absurd c9 (Int32.not_lt.mpr hc1)) (fun _ => ?_)
                refine lv_iload hx hb d_M_burst_45 (lv_at hl 4 rfl) ?_
                refine lv_bipush (v := 40) hx hb d_M_burst_47 (by decide) ?_
                refine lv_icmp_le (tgt := 55) hx hb d_M_burst_49 (by decide) (fun _ => ?_) (fun c9 => absurd (hc2) c9)
                refine lv_iconst (v := 0) hx hb d_M_burst_55 (by decide) ?_
                refine lv_istore (lv' := [(5, .int 0), (0, .ref ((q 0))), (1, .int ((nI ln))), (2, .int y), (3, .int st), (4, .int ((nI cn)))]) hx hb d_M_burst_56 hl (by decide) rfl (fun ls hl => ?_)
                refine lv_iconst (v := (nI 0)) hx hb d_M_burst_58 (by decide) ?_
                refine lv_istore (lv' := [(6, .int ((nI 0))), (5, .int 0), (0, .ref ((q 0))), (1, .int ((nI ln))), (2, .int y), (3, .int st), (4, .int ((nI cn)))]) hx hb d_M_burst_59 hl (by decide) rfl (fun ls hl => ?_)
                exact loop cn 0 nu ma sf hd vd _ _ ls (by omega) hR hP hD hS (lv_sub hl [2, 3, 4, 5, 6, 1, 0] rfl)
              · rw [show sp_burst w σ (nI ln) y st ct = (-4, σ) by unfold sp_burst; rw [if_pos hL, if_pos hW, if_pos ⟨hs1, hs2⟩, if_neg (fun h => hc2 h.2)]]
                refine ea_start (by decide) (Nat.le_of_ble_eq_true rfl) ?_
                intro p e s m below meth c ls hx hb hr hlocks hml hown hts hnm hB hl
                have hown : s.vm.findClass R_M = some m.cls := hown
                obtain ⟨hP, hK⟩ := hB
                have hl : lv_has ls 8 [(0, .ref ((q 0))), (1, .int ((nI ln))), (2, .int y), (3, .int st), (4, .int ct)] := hl
                have hS : va_S (ea_AX 6 q) s.heap s.heap [] := va_S.rf
                have hD : va_D (ea_AX 6 q) (ea_wM q cI (nI w) (nu, ma, sf, hd, vd)) := ea_DM hq
                refine lv_aload_n hx hb d_M_burst_0 rfl (lv_at hl 0 rfl) ?_
                refine lv_iload_n hx hb d_M_burst_1 rfl (lv_at hl 1 rfl) ?_
                refine ea_callR (As := [.int ((nI ln))]) (rest := []) (r := 0) ⟨hx, hb, hml, hown, hts⟩ hK hP rfl rfl (c_M_bad0 l D q cI cJ w (nu, ma, sf, hd, vd) hL) ⟨kl_M_41, kn_M_bad, ks_M_bad, ki_M, kc_M_bad⟩ kd_M_bad (by decide) ⟨Nat.le_of_ble_eq_true rfl, Nat.le_of_ble_eq_true rfl⟩ hl.1 rfl (Nat.le_of_ble_eq_true rfl) d_M_burst_2 ⟨Nat.le_of_ble_eq_true rfl, Nat.le_of_ble_eq_true rfl⟩ ?_
                refine lv_if_eq (tgt := 10) hx hb d_M_burst_5 (by decide) (fun _ => ?_) (fun c9 => absurd (rfl) c9)
                refine lv_iload_n hx hb d_M_burst_10 rfl (lv_at hl 2 rfl) ?_
                refine lv_if_lt (tgt := 21) hx hb d_M_burst_11 (by decide) (fun c9 => absurd c9 (h1)) (fun _ => ?_)
                refine lv_iload_n hx hb d_M_burst_14 rfl (lv_at hl 2 rfl) ?_
                refine lv_sipush (v := 255) hx hb d_M_burst_15 (by decide) ?_
                refine lv_icmp_le (tgt := 24) hx hb d_M_burst_18 (by decide) (fun _ => ?_) (fun c9 => absurd (h2) c9)
                refine lv_iload_n hx hb d_M_burst_24 rfl (lv_at hl 3 rfl) ?_
                refine lv_bipush (v := (-64)) hx hb d_M_burst_25 (by decide) ?_
                refine lv_icmp_lt (tgt := 36) hx hb d_M_burst_27 (by decide) (fun c9 => absurd c9 (Int32.not_lt.mpr hs1)) (fun _ => ?_)
                refine lv_iload_n hx hb d_M_burst_30 rfl (lv_at hl 3 rfl) ?_
                refine lv_bipush (v := 64) hx hb d_M_burst_31 (by decide) ?_
                refine lv_icmp_le (tgt := 39) hx hb d_M_burst_33 (by decide) (fun _ => ?_) (fun c9 => absurd (hs2) c9)
                refine lv_iload hx hb d_M_burst_39 (lv_at hl 4 rfl) ?_
                refine lv_iconst (v := 1) hx hb d_M_burst_41 (by decide) ?_
                refine lv_icmp_lt (tgt := 52) hx hb d_M_burst_42 (by decide) (fun c9 => absurd c9 (Int32.not_lt.mpr hc1)) (fun _ => ?_)
                refine lv_iload hx hb d_M_burst_45 (lv_at hl 4 rfl) ?_
                refine lv_bipush (v := 40) hx hb d_M_burst_47 (by decide) ?_
                refine lv_icmp_le (tgt := 55) hx hb d_M_burst_49 (by decide) (fun c9 => absurd c9 (hc2)) (fun _ => ?_)
                refine lv_bipush (v := (-4)) hx hb d_M_burst_52 (by decide) ?_
                exact ea_retW ((nu, ma, sf, hd, vd)) hx hb hr hlocks hS (⟨rfl, hR⟩) (hP) d_M_burst_54
            · rw [show sp_burst w σ (nI ln) y st ct = (-4, σ) by unfold sp_burst; rw [if_pos hL, if_pos hW, if_pos ⟨hs1, hs2⟩, if_neg (fun h => hc1 h.1)]]
              refine ea_start (by decide) (Nat.le_of_ble_eq_true rfl) ?_
              intro p e s m below meth c ls hx hb hr hlocks hml hown hts hnm hB hl
              have hown : s.vm.findClass R_M = some m.cls := hown
              obtain ⟨hP, hK⟩ := hB
              have hl : lv_has ls 8 [(0, .ref ((q 0))), (1, .int ((nI ln))), (2, .int y), (3, .int st), (4, .int ct)] := hl
              have hS : va_S (ea_AX 6 q) s.heap s.heap [] := va_S.rf
              have hD : va_D (ea_AX 6 q) (ea_wM q cI (nI w) (nu, ma, sf, hd, vd)) := ea_DM hq
              refine lv_aload_n hx hb d_M_burst_0 rfl (lv_at hl 0 rfl) ?_
              refine lv_iload_n hx hb d_M_burst_1 rfl (lv_at hl 1 rfl) ?_
              refine ea_callR (As := [.int ((nI ln))]) (rest := []) (r := 0) ⟨hx, hb, hml, hown, hts⟩ hK hP rfl rfl (c_M_bad0 l D q cI cJ w (nu, ma, sf, hd, vd) hL) ⟨kl_M_41, kn_M_bad, ks_M_bad, ki_M, kc_M_bad⟩ kd_M_bad (by decide) ⟨Nat.le_of_ble_eq_true rfl, Nat.le_of_ble_eq_true rfl⟩ hl.1 rfl (Nat.le_of_ble_eq_true rfl) d_M_burst_2 ⟨Nat.le_of_ble_eq_true rfl, Nat.le_of_ble_eq_true rfl⟩ ?_
              refine lv_if_eq (tgt := 10) hx hb d_M_burst_5 (by decide) (fun _ => ?_) (fun c9 => absurd (rfl) c9)
              refine lv_iload_n hx hb d_M_burst_10 rfl (lv_at hl 2 rfl) ?_
              refine lv_if_lt (tgt := 21) hx hb d_M_burst_11 (by decide) (fun c9 => absurd c9 (h1)) (fun _ => ?_)
              refine lv_iload_n hx hb d_M_burst_14 rfl (lv_at hl 2 rfl) ?_
              refine lv_sipush (v := 255) hx hb d_M_burst_15 (by decide) ?_
              refine lv_icmp_le (tgt := 24) hx hb d_M_burst_18 (by decide) (fun _ => ?_) (fun c9 => absurd (h2) c9)
              refine lv_iload_n hx hb d_M_burst_24 rfl (lv_at hl 3 rfl) ?_
              refine lv_bipush (v := (-64)) hx hb d_M_burst_25 (by decide) ?_
              refine lv_icmp_lt (tgt := 36) hx hb d_M_burst_27 (by decide) (fun c9 => absurd c9 (Int32.not_lt.mpr hs1)) (fun _ => ?_)
              refine lv_iload_n hx hb d_M_burst_30 rfl (lv_at hl 3 rfl) ?_
              refine lv_bipush (v := 64) hx hb d_M_burst_31 (by decide) ?_
              refine lv_icmp_le (tgt := 39) hx hb d_M_burst_33 (by decide) (fun _ => ?_) (fun c9 => absurd (hs2) c9)
              refine lv_iload hx hb d_M_burst_39 (lv_at hl 4 rfl) ?_
              refine lv_iconst (v := 1) hx hb d_M_burst_41 (by decide) ?_
              refine lv_icmp_lt (tgt := 52) hx hb d_M_burst_42 (by decide) (fun _ => ?_) (fun c9 => absurd (Int32.not_le.mp hc1) c9)
              refine lv_bipush (v := (-4)) hx hb d_M_burst_52 (by decide) ?_
              exact ea_retW ((nu, ma, sf, hd, vd)) hx hb hr hlocks hS (⟨rfl, hR⟩) (hP) d_M_burst_54
          · rw [show sp_burst w σ (nI ln) y st ct = (-3, σ) by unfold sp_burst; rw [if_pos hL, if_pos hW, if_neg (fun h => hs2 h.2)]]
            refine ea_start (by decide) (Nat.le_of_ble_eq_true rfl) ?_
            intro p e s m below meth c ls hx hb hr hlocks hml hown hts hnm hB hl
            have hown : s.vm.findClass R_M = some m.cls := hown
            obtain ⟨hP, hK⟩ := hB
            have hl : lv_has ls 8 [(0, .ref ((q 0))), (1, .int ((nI ln))), (2, .int y), (3, .int st), (4, .int ct)] := hl
            have hS : va_S (ea_AX 6 q) s.heap s.heap [] := va_S.rf
            have hD : va_D (ea_AX 6 q) (ea_wM q cI (nI w) (nu, ma, sf, hd, vd)) := ea_DM hq
            refine lv_aload_n hx hb d_M_burst_0 rfl (lv_at hl 0 rfl) ?_
            refine lv_iload_n hx hb d_M_burst_1 rfl (lv_at hl 1 rfl) ?_
            refine ea_callR (As := [.int ((nI ln))]) (rest := []) (r := 0) ⟨hx, hb, hml, hown, hts⟩ hK hP rfl rfl (c_M_bad0 l D q cI cJ w (nu, ma, sf, hd, vd) hL) ⟨kl_M_41, kn_M_bad, ks_M_bad, ki_M, kc_M_bad⟩ kd_M_bad (by decide) ⟨Nat.le_of_ble_eq_true rfl, Nat.le_of_ble_eq_true rfl⟩ hl.1 rfl (Nat.le_of_ble_eq_true rfl) d_M_burst_2 ⟨Nat.le_of_ble_eq_true rfl, Nat.le_of_ble_eq_true rfl⟩ ?_
            refine lv_if_eq (tgt := 10) hx hb d_M_burst_5 (by decide) (fun _ => ?_) (fun c9 => absurd (rfl) c9)
            refine lv_iload_n hx hb d_M_burst_10 rfl (lv_at hl 2 rfl) ?_
            refine lv_if_lt (tgt := 21) hx hb d_M_burst_11 (by decide) (fun c9 => absurd c9 (h1)) (fun _ => ?_)
            refine lv_iload_n hx hb d_M_burst_14 rfl (lv_at hl 2 rfl) ?_
            refine lv_sipush (v := 255) hx hb d_M_burst_15 (by decide) ?_
            refine lv_icmp_le (tgt := 24) hx hb d_M_burst_18 (by decide) (fun _ => ?_) (fun c9 => absurd (h2) c9)
            refine lv_iload_n hx hb d_M_burst_24 rfl (lv_at hl 3 rfl) ?_
            refine lv_bipush (v := (-64)) hx hb d_M_burst_25 (by decide) ?_
            refine lv_icmp_lt (tgt := 36) hx hb d_M_burst_27 (by decide) (fun c9 => absurd c9 (Int32.not_lt.mpr hs1)) (fun _ => ?_)
            refine lv_iload_n hx hb d_M_burst_30 rfl (lv_at hl 3 rfl) ?_
            refine lv_bipush (v := 64) hx hb d_M_burst_31 (by decide) ?_
            refine lv_icmp_le (tgt := 39) hx hb d_M_burst_33 (by decide) (fun c9 => absurd c9 (hs2)) (fun _ => ?_)
            refine lv_bipush (v := (-3)) hx hb d_M_burst_36 (by decide) ?_
            exact ea_retW ((nu, ma, sf, hd, vd)) hx hb hr hlocks hS (⟨rfl, hR⟩) (hP) d_M_burst_38
        · rw [show sp_burst w σ (nI ln) y st ct = (-3, σ) by unfold sp_burst; rw [if_pos hL, if_pos hW, if_neg (fun h => hs1 h.1)]]
          refine ea_start (by decide) (Nat.le_of_ble_eq_true rfl) ?_
          intro p e s m below meth c ls hx hb hr hlocks hml hown hts hnm hB hl
          have hown : s.vm.findClass R_M = some m.cls := hown
          obtain ⟨hP, hK⟩ := hB
          have hl : lv_has ls 8 [(0, .ref ((q 0))), (1, .int ((nI ln))), (2, .int y), (3, .int st), (4, .int ct)] := hl
          have hS : va_S (ea_AX 6 q) s.heap s.heap [] := va_S.rf
          have hD : va_D (ea_AX 6 q) (ea_wM q cI (nI w) (nu, ma, sf, hd, vd)) := ea_DM hq
          refine lv_aload_n hx hb d_M_burst_0 rfl (lv_at hl 0 rfl) ?_
          refine lv_iload_n hx hb d_M_burst_1 rfl (lv_at hl 1 rfl) ?_
          refine ea_callR (As := [.int ((nI ln))]) (rest := []) (r := 0) ⟨hx, hb, hml, hown, hts⟩ hK hP rfl rfl (c_M_bad0 l D q cI cJ w (nu, ma, sf, hd, vd) hL) ⟨kl_M_41, kn_M_bad, ks_M_bad, ki_M, kc_M_bad⟩ kd_M_bad (by decide) ⟨Nat.le_of_ble_eq_true rfl, Nat.le_of_ble_eq_true rfl⟩ hl.1 rfl (Nat.le_of_ble_eq_true rfl) d_M_burst_2 ⟨Nat.le_of_ble_eq_true rfl, Nat.le_of_ble_eq_true rfl⟩ ?_
          refine lv_if_eq (tgt := 10) hx hb d_M_burst_5 (by decide) (fun _ => ?_) (fun c9 => absurd (rfl) c9)
          refine lv_iload_n hx hb d_M_burst_10 rfl (lv_at hl 2 rfl) ?_
          refine lv_if_lt (tgt := 21) hx hb d_M_burst_11 (by decide) (fun c9 => absurd c9 (h1)) (fun _ => ?_)
          refine lv_iload_n hx hb d_M_burst_14 rfl (lv_at hl 2 rfl) ?_
          refine lv_sipush (v := 255) hx hb d_M_burst_15 (by decide) ?_
          refine lv_icmp_le (tgt := 24) hx hb d_M_burst_18 (by decide) (fun _ => ?_) (fun c9 => absurd (h2) c9)
          refine lv_iload_n hx hb d_M_burst_24 rfl (lv_at hl 3 rfl) ?_
          refine lv_bipush (v := (-64)) hx hb d_M_burst_25 (by decide) ?_
          refine lv_icmp_lt (tgt := 36) hx hb d_M_burst_27 (by decide) (fun _ => ?_) (fun c9 => absurd (Int32.not_le.mp hs1) c9)
          refine lv_bipush (v := (-3)) hx hb d_M_burst_36 (by decide) ?_
          exact ea_retW ((nu, ma, sf, hd, vd)) hx hb hr hlocks hS (⟨rfl, hR⟩) (hP) d_M_burst_38
      · rw [show sp_burst w σ (nI ln) y st ct = (-2, σ) by unfold sp_burst; rw [if_pos hL, if_neg (fun h => h2 h.2)]]
        refine ea_start (by decide) (Nat.le_of_ble_eq_true rfl) ?_
        intro p e s m below meth c ls hx hb hr hlocks hml hown hts hnm hB hl
        have hown : s.vm.findClass R_M = some m.cls := hown
        obtain ⟨hP, hK⟩ := hB
        have hl : lv_has ls 8 [(0, .ref ((q 0))), (1, .int ((nI ln))), (2, .int y), (3, .int st), (4, .int ct)] := hl
        have hS : va_S (ea_AX 6 q) s.heap s.heap [] := va_S.rf
        have hD : va_D (ea_AX 6 q) (ea_wM q cI (nI w) (nu, ma, sf, hd, vd)) := ea_DM hq
        refine lv_aload_n hx hb d_M_burst_0 rfl (lv_at hl 0 rfl) ?_
        refine lv_iload_n hx hb d_M_burst_1 rfl (lv_at hl 1 rfl) ?_
        refine ea_callR (As := [.int ((nI ln))]) (rest := []) (r := 0) ⟨hx, hb, hml, hown, hts⟩ hK hP rfl rfl (c_M_bad0 l D q cI cJ w (nu, ma, sf, hd, vd) hL) ⟨kl_M_41, kn_M_bad, ks_M_bad, ki_M, kc_M_bad⟩ kd_M_bad (by decide) ⟨Nat.le_of_ble_eq_true rfl, Nat.le_of_ble_eq_true rfl⟩ hl.1 rfl (Nat.le_of_ble_eq_true rfl) d_M_burst_2 ⟨Nat.le_of_ble_eq_true rfl, Nat.le_of_ble_eq_true rfl⟩ ?_
        refine lv_if_eq (tgt := 10) hx hb d_M_burst_5 (by decide) (fun _ => ?_) (fun c9 => absurd (rfl) c9)
        refine lv_iload_n hx hb d_M_burst_10 rfl (lv_at hl 2 rfl) ?_
        refine lv_if_lt (tgt := 21) hx hb d_M_burst_11 (by decide) (fun c9 => absurd c9 (h1)) (fun _ => ?_)
        refine lv_iload_n hx hb d_M_burst_14 rfl (lv_at hl 2 rfl) ?_
        refine lv_sipush (v := 255) hx hb d_M_burst_15 (by decide) ?_
        refine lv_icmp_le (tgt := 24) hx hb d_M_burst_18 (by decide) (fun c9 => absurd c9 (h2)) (fun _ => ?_)
        refine lv_bipush (v := (-2)) hx hb d_M_burst_21 (by decide) ?_
        exact ea_retW ((nu, ma, sf, hd, vd)) hx hb hr hlocks hS (⟨rfl, hR⟩) (hP) d_M_burst_23
  · rw [show sp_burst w σ x y st ct = (-1, σ) by unfold sp_burst; rw [if_neg hL]]
    refine ea_start (by decide) (Nat.le_of_ble_eq_true rfl) ?_
    intro p e s m below meth c ls hx hb hr hlocks hml hown hts hnm hB hl
    have hown : s.vm.findClass R_M = some m.cls := hown
    obtain ⟨hP, hK⟩ := hB
    have hl : lv_has ls 8 [(0, .ref ((q 0))), (1, .int x), (2, .int y), (3, .int st), (4, .int ct)] := hl
    have hS : va_S (ea_AX 6 q) s.heap s.heap [] := va_S.rf
    have hD : va_D (ea_AX 6 q) (ea_wM q cI (nI w) (nu, ma, sf, hd, vd)) := ea_DM hq
    refine lv_aload_n hx hb d_M_burst_0 rfl (lv_at hl 0 rfl) ?_
    refine lv_iload_n hx hb d_M_burst_1 rfl (lv_at hl 1 rfl) ?_
    refine ea_callR (As := [.int x]) (rest := []) (r := 1) ⟨hx, hb, hml, hown, hts⟩ hK hP rfl rfl (c_M_bad1 l D q cI cJ w (nu, ma, sf, hd, vd) hL) ⟨kl_M_41, kn_M_bad, ks_M_bad, ki_M, kc_M_bad⟩ kd_M_bad (by decide) ⟨Nat.le_of_ble_eq_true rfl, Nat.le_of_ble_eq_true rfl⟩ hl.1 rfl (Nat.le_of_ble_eq_true rfl) d_M_burst_2 ⟨Nat.le_of_ble_eq_true rfl, Nat.le_of_ble_eq_true rfl⟩ ?_
    refine lv_if_eq (tgt := 10) hx hb d_M_burst_5 (by decide) (fun c9 => absurd c9 (by decide)) (fun _ => ?_)
    refine lv_iconst (v := (-1)) hx hb d_M_burst_8 (by decide) ?_
    exact ea_retW ((nu, ma, sf, hd, vd)) hx hb hr hlocks hS (⟨rfl, hR⟩) (hP) d_M_burst_9
end
section
def ea_s0 : ea_S := (fun _ => [], fun _ => 40, fun _ => 60, fun _ _ => 0)
theorem ea_ok0 : ea_ok ea_s0 := fun l hl => ⟨⟨List.Pairwise.nil, fun x hx => (by cases hx), Nat.zero_le _, Nat.le_refl _⟩, ⟨show 1 ≤ 60 by decide, show 60 ≤ 60 by decide⟩, show 40 ≤ 60 by decide⟩
def ea_w (x : Int32) : Nat := if x < 4 then 4 else if 64 < x then 64 else ea_n x
theorem ea_wB {x : Int32} (h1 : ¬ x < 4) (h2 : ¬ 64 < x) : ∃ n, 4 ≤ n ∧ n ≤ 64 ∧ x = nI n ∧ ea_w x = n := by
  obtain ⟨n, hn, rfl⟩ := nI_of2 (x := x) (M := 64) (n := 64) (by decide) (fun h => h1 (Int32.lt_trans h (by decide))) (Int32.not_lt.mp h2)
  have h4 : 4 ≤ n := by
    have := mt (nI_ltI (a := n) (b := 4) (by omega) (by omega)).mpr h1
    omega
  refine ⟨n, h4, hn, rfl, ?_⟩
  unfold ea_w
  rw [if_neg h1, if_neg h2]
  exact nI_clamp (by omega)
theorem ea_RX0 {w : Nat} {sf hd : Nat → Int32} (h1 : ∀ l, l < 4 → sf l = nI 40) (h2 : ∀ l, l < 4 → hd l = nI 60) : ea_RX w ea_s0 (fun _ => 0, fun _ => 0, fun _ => 0, fun _ => 0, fun _ => 0, sf, hd, fun _ => 0) :=
  fun l hl => ⟨show ea_XL w [] 0 0 0 0 (fun _ => 0) from ⟨rfl, rfl, fun k hk => by simp [ea_bit], rfl, fun i hi => absurd hi (Nat.not_lt_zero _)⟩, h1 l hl, h2 l hl, fun _ _ _ => rfl⟩
theorem ea_RM0 {sf hd : Nat → Int32} (h1 : ∀ l, l < 4 → sf l = nI 40) (h2 : ∀ l, l < 4 → hd l = nI 60) : ea_RM ea_s0 (fun _ => 0, fun _ => 0, sf, hd, fun _ => 0) :=
  fun l hl => ⟨show ea_ML [] 0 (fun _ => 0) from ⟨[], List.Perm.refl _, rfl, fun i hi => absurd hi (Nat.not_lt_zero _)⟩, h1 l hl, h2 l hl, fun _ _ _ => rfl⟩
theorem ea_up4 {f0 f1 f2 f3 f4 : Nat → Int32} {x : Int32} (e1 : f1 = upd f0 0 x) (e2 : f2 = upd f1 1 x) (e3 : f3 = upd f2 2 x) (e4 : f4 = upd f3 3 x) : ∀ l, l < 4 → f4 l = x := by
  subst e1 e2 e3 e4
  intro l hl
  rcases (show l = 0 ∨ l = 1 ∨ l = 2 ∨ l = 3 by omega) with rfl | rfl | rfl | rfl <;> simp [upd]
def ea_PI (D : va_G) (cI cJ : ClassId) (wi : Int32) (a : (Nat → Nat) × Int64 × ea_XS) (H : Heap) : Prop := va_P D ea_cl (ea_wX a.1 cI cJ wi a.2.1 a.2.2) H
def ea_QI (h0 sz w : Nat) (a : (Nat → Nat) × Int64 × ea_XS) : Prop := a.1 0 = h0 ∧ ea_ap 9 a.1 ∧ (∀ i, 1 ≤ i → i < 9 → sz ≤ a.1 i) ∧ ea_cx w a.2.1 ∧ ea_RX w ea_s0 a.2.2
def ea_PJ (D : va_G) (cI : ClassId) (wi : Int32) (a : (Nat → Nat) × ea_MS) (H : Heap) : Prop := va_P D ea_cl (ea_wM a.1 cI wi a.2) H
def ea_QJ (h0 sz : Nat) (a : (Nat → Nat) × ea_MS) : Prop := a.1 0 = h0 ∧ ea_ap 6 a.1 ∧ (∀ i, 1 ≤ i → i < 6 → sz ≤ a.1 i) ∧ ea_RM ea_s0 a.2
def ea_A0 (h0 sz : Nat) : Nat → Prop := fun a => a = h0 ∨ sz ≤ a
set_option maxHeartbeats 400000 in
set_option maxRecDepth 100000 in
theorem c_X_init (l : Launch) (D : va_G) (cI cJ : ClassId) (h0 sz : Nat) (x : Int32) : Met l y_X_init (.code y_X_init b_X_init 3 none :: ea_tb) ({ frames := 1, cells := 8, slots := 288, locals := 12 } : Room) (va_Pc [.ref h0, .int x] (fun U => U.heap.size = sz ∧ va_P D ea_cl [(h0, .inr (0, [.null, .null, .null, .null, .null, .null, .null, .null, .int 0, .long 0]))] U.heap ∧ va_K D ea_cl (ea_ty cI cJ) U ∧ h0 < sz)) (va_Qv (ea_QI h0 sz (ea_w x)) (fun a t => ea_PI D cI cJ (nI (ea_w x)) a t.heap) (ea_A0 h0 sz)) 8 288 (ea_A0 h0 sz) := by
  refine ea_start (by decide) (Nat.le_of_ble_eq_true rfl) ?_
  intro p e s m below meth c ls hx hb hr hlocks hml hown hts hnm hB hl
  have hown : s.vm.findClass R_X = some m.cls := hown
  have hl : lv_has ls 3 [(0, .ref h0), (1, .int x)] := hl
  obtain ⟨hsz, hP, hK, hlt⟩ := hB
  generalize hAe : ea_A0 h0 sz = A
  have hA : ∀ q : Nat, s.heap.size ≤ q → A q := fun q h => by rw [← hAe]; exact Or.inr (by rw [← hsz]; exact h)
  have hA0 : A h0 := by rw [← hAe]; exact Or.inl rfl
  have hS : va_S A s.heap s.heap [] := va_S.rf
  have hD : va_D A [(h0, .inr (0, [.null, .null, .null, .null, .null, .null, .null, .null, .int 0, .long 0]))] := ⟨fun i j a b ha hb _ => by have h1 := (List.getElem?_eq_some_iff.mp ha).1; have h2 := (List.getElem?_eq_some_iff.mp hb).1; simp at h1 h2; omega, fun k a ha => by have h1 := (List.getElem?_eq_some_iff.mp ha).1; simp at h1; subst h1; cases ha; exact hA0⟩
  refine lv_aload_n hx hb d_X_init_0 rfl (lv_at hl 0 rfl) ?_
  refine W.objInit hx hb hown (hts _ kl_X_1) (hts _ kn_obj) (hts _ kc_obj) rfl (by rw [hml]; exact hl.1) rfl d_X_init_1 (Nat.le_of_ble_eq_true rfl) (Nat.le_of_ble_eq_true rfl) ?_
  refine W.eq (g2 := F0 m 4 ls []) rfl ?_
  refine lv_aload_n hx hb d_X_init_4 rfl (lv_at hl 0 rfl) ?_
  refine lv_iconst (v := 4) hx hb d_X_init_5 (by decide) ?_
  refine ea_newa (atype := .int) hx hb (hts _ ka_int) rfl (fun _ h => by cases h) hK hP hD hS hA 0 rfl (a0 := (4, .inl (fun _ => 0))) (N' := 4) (fun _ => rfl) (by decide) (by decide) (by decide) (Nat.le_of_ble_eq_true rfl) (Nat.le_of_ble_eq_true rfl) d_X_init_6 (fun q1 H hP hD hS => ?_)
  have hP : va_P D ea_cl [(h0, .inr (0, [.null, .null, .null, .null, .null, .null, .null, .null, .int 0, .long 0])), (q1, .inl (cI, 4, .inl (fun _ => 0)))] H := hP
  have hD : va_D A [(h0, .inr (0, [.null, .null, .null, .null, .null, .null, .null, .null, .int 0, .long 0])), (q1, .inl (cI, 4, .inl (fun _ => 0)))] := hD
  refine va_putF (D := D) (ci := 0) (v := .ref q1) (ty := .array .int) (C := R_X) (T := F_X) (N := 10) hx hb hts i_X t_X t_X_ok n_X hown hK hP hD hS 0 rfl rfl 0 (by decide) (hts _ kf_X_topHigh) (fun _ h9 => h9) rfl hnm rfl (by decide +kernel) rfl rfl (Nat.le_of_ble_eq_true rfl) d_X_init_8 (fun H locs hP hD hS => ?_)
  have hP : va_P D ea_cl [(h0, .inr (0, [.ref q1, .null, .null, .null, .null, .null, .null, .null, .int 0, .long 0])), (q1, .inl (cI, 4, .inl (fun _ => 0)))] H := hP
  have hD : va_D A [(h0, .inr (0, [.ref q1, .null, .null, .null, .null, .null, .null, .null, .int 0, .long 0])), (q1, .inl (cI, 4, .inl (fun _ => 0)))] := hD
  refine lv_aload_n hx hb d_X_init_11 rfl (lv_at hl 0 rfl) ?_
  refine lv_iconst (v := 4) hx hb d_X_init_12 (by decide) ?_
  refine ea_newa (atype := .int) hx hb (hts _ ka_int) rfl (fun _ h => by cases h) hK hP hD hS hA 0 rfl (a0 := (4, .inl (fun _ => 0))) (N' := 4) (fun _ => rfl) (by decide) (by decide) (by decide) (Nat.le_of_ble_eq_true rfl) (Nat.le_of_ble_eq_true rfl) d_X_init_13 (fun q2 H hP hD hS => ?_)
  have hP : va_P D ea_cl [(h0, .inr (0, [.ref q1, .null, .null, .null, .null, .null, .null, .null, .int 0, .long 0])), (q1, .inl (cI, 4, .inl (fun _ => 0))), (q2, .inl (cI, 4, .inl (fun _ => 0)))] H := hP
  have hD : va_D A [(h0, .inr (0, [.ref q1, .null, .null, .null, .null, .null, .null, .null, .int 0, .long 0])), (q1, .inl (cI, 4, .inl (fun _ => 0))), (q2, .inl (cI, 4, .inl (fun _ => 0)))] := hD
  refine va_putF (D := D) (ci := 0) (v := .ref q2) (ty := .array .int) (C := R_X) (T := F_X) (N := 10) hx hb hts i_X t_X t_X_ok n_X hown hK hP hD hS 0 rfl rfl 1 (by decide) (hts _ kf_X_topLow) (fun _ h9 => h9) rfl hnm rfl (by decide +kernel) rfl rfl (Nat.le_of_ble_eq_true rfl) d_X_init_15 (fun H locs hP hD hS => ?_)
  have hP : va_P D ea_cl [(h0, .inr (0, [.ref q1, .ref q2, .null, .null, .null, .null, .null, .null, .int 0, .long 0])), (q1, .inl (cI, 4, .inl (fun _ => 0))), (q2, .inl (cI, 4, .inl (fun _ => 0)))] H := hP
  have hD : va_D A [(h0, .inr (0, [.ref q1, .ref q2, .null, .null, .null, .null, .null, .null, .int 0, .long 0])), (q1, .inl (cI, 4, .inl (fun _ => 0))), (q2, .inl (cI, 4, .inl (fun _ => 0)))] := hD
  refine lv_aload_n hx hb d_X_init_18 rfl (lv_at hl 0 rfl) ?_
  refine lv_iconst (v := 4) hx hb d_X_init_19 (by decide) ?_
  refine ea_newa (atype := .long) hx hb (hts _ ka_long) rfl (fun _ h => by cases h) hK hP hD hS hA 1 rfl (a0 := (4, .inr (.inl (fun _ => 0)))) (N' := 4) (fun _ => rfl) (by decide) (by decide) (by decide) (Nat.le_of_ble_eq_true rfl) (Nat.le_of_ble_eq_true rfl) d_X_init_20 (fun q3 H hP hD hS => ?_)
  have hP : va_P D ea_cl [(h0, .inr (0, [.ref q1, .ref q2, .null, .null, .null, .null, .null, .null, .int 0, .long 0])), (q1, .inl (cI, 4, .inl (fun _ => 0))), (q2, .inl (cI, 4, .inl (fun _ => 0))), (q3, .inl (cJ, 4, .inr (.inl (fun _ => 0))))] H := hP
  have hD : va_D A [(h0, .inr (0, [.ref q1, .ref q2, .null, .null, .null, .null, .null, .null, .int 0, .long 0])), (q1, .inl (cI, 4, .inl (fun _ => 0))), (q2, .inl (cI, 4, .inl (fun _ => 0))), (q3, .inl (cJ, 4, .inr (.inl (fun _ => 0))))] := hD
  refine va_putF (D := D) (ci := 0) (v := .ref q3) (ty := .array .long) (C := R_X) (T := F_X) (N := 10) hx hb hts i_X t_X t_X_ok n_X hown hK hP hD hS 0 rfl rfl 2 (by decide) (hts _ kf_X_bits) (fun _ h9 => h9) rfl hnm rfl (by decide +kernel) rfl rfl (Nat.le_of_ble_eq_true rfl) d_X_init_22 (fun H locs hP hD hS => ?_)
  have hP : va_P D ea_cl [(h0, .inr (0, [.ref q1, .ref q2, .ref q3, .null, .null, .null, .null, .null, .int 0, .long 0])), (q1, .inl (cI, 4, .inl (fun _ => 0))), (q2, .inl (cI, 4, .inl (fun _ => 0))), (q3, .inl (cJ, 4, .inr (.inl (fun _ => 0))))] H := hP
  have hD : va_D A [(h0, .inr (0, [.ref q1, .ref q2, .ref q3, .null, .null, .null, .null, .null, .int 0, .long 0])), (q1, .inl (cI, 4, .inl (fun _ => 0))), (q2, .inl (cI, 4, .inl (fun _ => 0))), (q3, .inl (cJ, 4, .inr (.inl (fun _ => 0))))] := hD
  refine lv_aload_n hx hb d_X_init_25 rfl (lv_at hl 0 rfl) ?_
  refine lv_iconst (v := 4) hx hb d_X_init_26 (by decide) ?_
  refine ea_newa (atype := .int) hx hb (hts _ ka_int) rfl (fun _ h => by cases h) hK hP hD hS hA 0 rfl (a0 := (4, .inl (fun _ => 0))) (N' := 4) (fun _ => rfl) (by decide) (by decide) (by decide) (Nat.le_of_ble_eq_true rfl) (Nat.le_of_ble_eq_true rfl) d_X_init_27 (fun q4 H hP hD hS => ?_)
  have hP : va_P D ea_cl [(h0, .inr (0, [.ref q1, .ref q2, .ref q3, .null, .null, .null, .null, .null, .int 0, .long 0])), (q1, .inl (cI, 4, .inl (fun _ => 0))), (q2, .inl (cI, 4, .inl (fun _ => 0))), (q3, .inl (cJ, 4, .inr (.inl (fun _ => 0)))), (q4, .inl (cI, 4, .inl (fun _ => 0)))] H := hP
  have hD : va_D A [(h0, .inr (0, [.ref q1, .ref q2, .ref q3, .null, .null, .null, .null, .null, .int 0, .long 0])), (q1, .inl (cI, 4, .inl (fun _ => 0))), (q2, .inl (cI, 4, .inl (fun _ => 0))), (q3, .inl (cJ, 4, .inr (.inl (fun _ => 0)))), (q4, .inl (cI, 4, .inl (fun _ => 0)))] := hD
  refine va_putF (D := D) (ci := 0) (v := .ref q4) (ty := .array .int) (C := R_X) (T := F_X) (N := 10) hx hb hts i_X t_X t_X_ok n_X hown hK hP hD hS 0 rfl rfl 3 (by decide) (hts _ kf_X_passed) (fun _ h9 => h9) rfl hnm rfl (by decide +kernel) rfl rfl (Nat.le_of_ble_eq_true rfl) d_X_init_29 (fun H locs hP hD hS => ?_)
  have hP : va_P D ea_cl [(h0, .inr (0, [.ref q1, .ref q2, .ref q3, .ref q4, .null, .null, .null, .null, .int 0, .long 0])), (q1, .inl (cI, 4, .inl (fun _ => 0))), (q2, .inl (cI, 4, .inl (fun _ => 0))), (q3, .inl (cJ, 4, .inr (.inl (fun _ => 0)))), (q4, .inl (cI, 4, .inl (fun _ => 0)))] H := hP
  have hD : va_D A [(h0, .inr (0, [.ref q1, .ref q2, .ref q3, .ref q4, .null, .null, .null, .null, .int 0, .long 0])), (q1, .inl (cI, 4, .inl (fun _ => 0))), (q2, .inl (cI, 4, .inl (fun _ => 0))), (q3, .inl (cJ, 4, .inr (.inl (fun _ => 0)))), (q4, .inl (cI, 4, .inl (fun _ => 0)))] := hD
  refine lv_aload_n hx hb d_X_init_32 rfl (lv_at hl 0 rfl) ?_
  refine lv_sipush (v := 240) hx hb d_X_init_33 (by decide) ?_
  refine ea_newa (atype := .int) hx hb (hts _ ka_int) rfl (fun _ h => by cases h) hK hP hD hS hA 0 rfl (a0 := (240, .inl (fun _ => 0))) (N' := 240) (fun _ => rfl) (by decide) (by decide) (by decide) (Nat.le_of_ble_eq_true rfl) (Nat.le_of_ble_eq_true rfl) d_X_init_36 (fun q5 H hP hD hS => ?_)
  have hP : va_P D ea_cl [(h0, .inr (0, [.ref q1, .ref q2, .ref q3, .ref q4, .null, .null, .null, .null, .int 0, .long 0])), (q1, .inl (cI, 4, .inl (fun _ => 0))), (q2, .inl (cI, 4, .inl (fun _ => 0))), (q3, .inl (cJ, 4, .inr (.inl (fun _ => 0)))), (q4, .inl (cI, 4, .inl (fun _ => 0))), (q5, .inl (cI, 240, .inl (fun _ => 0)))] H := hP
  have hD : va_D A [(h0, .inr (0, [.ref q1, .ref q2, .ref q3, .ref q4, .null, .null, .null, .null, .int 0, .long 0])), (q1, .inl (cI, 4, .inl (fun _ => 0))), (q2, .inl (cI, 4, .inl (fun _ => 0))), (q3, .inl (cJ, 4, .inr (.inl (fun _ => 0)))), (q4, .inl (cI, 4, .inl (fun _ => 0))), (q5, .inl (cI, 240, .inl (fun _ => 0)))] := hD
  refine va_putF (D := D) (ci := 0) (v := .ref q5) (ty := .array .int) (C := R_X) (T := F_X) (N := 10) hx hb hts i_X t_X t_X_ok n_X hown hK hP hD hS 0 rfl rfl 4 (by decide) (hts _ kf_X_list) (fun _ h9 => h9) rfl hnm rfl (by decide +kernel) rfl rfl (Nat.le_of_ble_eq_true rfl) d_X_init_38 (fun H locs hP hD hS => ?_)
  have hP : va_P D ea_cl [(h0, .inr (0, [.ref q1, .ref q2, .ref q3, .ref q4, .ref q5, .null, .null, .null, .int 0, .long 0])), (q1, .inl (cI, 4, .inl (fun _ => 0))), (q2, .inl (cI, 4, .inl (fun _ => 0))), (q3, .inl (cJ, 4, .inr (.inl (fun _ => 0)))), (q4, .inl (cI, 4, .inl (fun _ => 0))), (q5, .inl (cI, 240, .inl (fun _ => 0)))] H := hP
  have hD : va_D A [(h0, .inr (0, [.ref q1, .ref q2, .ref q3, .ref q4, .ref q5, .null, .null, .null, .int 0, .long 0])), (q1, .inl (cI, 4, .inl (fun _ => 0))), (q2, .inl (cI, 4, .inl (fun _ => 0))), (q3, .inl (cJ, 4, .inr (.inl (fun _ => 0)))), (q4, .inl (cI, 4, .inl (fun _ => 0))), (q5, .inl (cI, 240, .inl (fun _ => 0)))] := hD
  refine lv_aload_n hx hb d_X_init_41 rfl (lv_at hl 0 rfl) ?_
  refine lv_iconst (v := 4) hx hb d_X_init_42 (by decide) ?_
  refine ea_newa (atype := .int) hx hb (hts _ ka_int) rfl (fun _ h => by cases h) hK hP hD hS hA 0 rfl (a0 := (4, .inl (fun _ => 0))) (N' := 4) (fun _ => rfl) (by decide) (by decide) (by decide) (Nat.le_of_ble_eq_true rfl) (Nat.le_of_ble_eq_true rfl) d_X_init_43 (fun q6 H hP hD hS => ?_)
  have hP : va_P D ea_cl [(h0, .inr (0, [.ref q1, .ref q2, .ref q3, .ref q4, .ref q5, .null, .null, .null, .int 0, .long 0])), (q1, .inl (cI, 4, .inl (fun _ => 0))), (q2, .inl (cI, 4, .inl (fun _ => 0))), (q3, .inl (cJ, 4, .inr (.inl (fun _ => 0)))), (q4, .inl (cI, 4, .inl (fun _ => 0))), (q5, .inl (cI, 240, .inl (fun _ => 0))), (q6, .inl (cI, 4, .inl (fun _ => 0)))] H := hP
  have hD : va_D A [(h0, .inr (0, [.ref q1, .ref q2, .ref q3, .ref q4, .ref q5, .null, .null, .null, .int 0, .long 0])), (q1, .inl (cI, 4, .inl (fun _ => 0))), (q2, .inl (cI, 4, .inl (fun _ => 0))), (q3, .inl (cJ, 4, .inr (.inl (fun _ => 0)))), (q4, .inl (cI, 4, .inl (fun _ => 0))), (q5, .inl (cI, 240, .inl (fun _ => 0))), (q6, .inl (cI, 4, .inl (fun _ => 0)))] := hD
  refine va_putF (D := D) (ci := 0) (v := .ref q6) (ty := .array .int) (C := R_X) (T := F_X) (N := 10) hx hb hts i_X t_X t_X_ok n_X hown hK hP hD hS 0 rfl rfl 5 (by decide) (hts _ kf_X_soft) (fun _ h9 => h9) rfl hnm rfl (by decide +kernel) rfl rfl (Nat.le_of_ble_eq_true rfl) d_X_init_45 (fun H locs hP hD hS => ?_)
  have hP : va_P D ea_cl [(h0, .inr (0, [.ref q1, .ref q2, .ref q3, .ref q4, .ref q5, .ref q6, .null, .null, .int 0, .long 0])), (q1, .inl (cI, 4, .inl (fun _ => 0))), (q2, .inl (cI, 4, .inl (fun _ => 0))), (q3, .inl (cJ, 4, .inr (.inl (fun _ => 0)))), (q4, .inl (cI, 4, .inl (fun _ => 0))), (q5, .inl (cI, 240, .inl (fun _ => 0))), (q6, .inl (cI, 4, .inl (fun _ => 0)))] H := hP
  have hD : va_D A [(h0, .inr (0, [.ref q1, .ref q2, .ref q3, .ref q4, .ref q5, .ref q6, .null, .null, .int 0, .long 0])), (q1, .inl (cI, 4, .inl (fun _ => 0))), (q2, .inl (cI, 4, .inl (fun _ => 0))), (q3, .inl (cJ, 4, .inr (.inl (fun _ => 0)))), (q4, .inl (cI, 4, .inl (fun _ => 0))), (q5, .inl (cI, 240, .inl (fun _ => 0))), (q6, .inl (cI, 4, .inl (fun _ => 0)))] := hD
  refine lv_aload_n hx hb d_X_init_48 rfl (lv_at hl 0 rfl) ?_
  refine lv_iconst (v := 4) hx hb d_X_init_49 (by decide) ?_
  refine ea_newa (atype := .int) hx hb (hts _ ka_int) rfl (fun _ h => by cases h) hK hP hD hS hA 0 rfl (a0 := (4, .inl (fun _ => 0))) (N' := 4) (fun _ => rfl) (by decide) (by decide) (by decide) (Nat.le_of_ble_eq_true rfl) (Nat.le_of_ble_eq_true rfl) d_X_init_50 (fun q7 H hP hD hS => ?_)
  have hP : va_P D ea_cl [(h0, .inr (0, [.ref q1, .ref q2, .ref q3, .ref q4, .ref q5, .ref q6, .null, .null, .int 0, .long 0])), (q1, .inl (cI, 4, .inl (fun _ => 0))), (q2, .inl (cI, 4, .inl (fun _ => 0))), (q3, .inl (cJ, 4, .inr (.inl (fun _ => 0)))), (q4, .inl (cI, 4, .inl (fun _ => 0))), (q5, .inl (cI, 240, .inl (fun _ => 0))), (q6, .inl (cI, 4, .inl (fun _ => 0))), (q7, .inl (cI, 4, .inl (fun _ => 0)))] H := hP
  have hD : va_D A [(h0, .inr (0, [.ref q1, .ref q2, .ref q3, .ref q4, .ref q5, .ref q6, .null, .null, .int 0, .long 0])), (q1, .inl (cI, 4, .inl (fun _ => 0))), (q2, .inl (cI, 4, .inl (fun _ => 0))), (q3, .inl (cJ, 4, .inr (.inl (fun _ => 0)))), (q4, .inl (cI, 4, .inl (fun _ => 0))), (q5, .inl (cI, 240, .inl (fun _ => 0))), (q6, .inl (cI, 4, .inl (fun _ => 0))), (q7, .inl (cI, 4, .inl (fun _ => 0)))] := hD
  refine va_putF (D := D) (ci := 0) (v := .ref q7) (ty := .array .int) (C := R_X) (T := F_X) (N := 10) hx hb hts i_X t_X t_X_ok n_X hown hK hP hD hS 0 rfl rfl 6 (by decide) (hts _ kf_X_hard) (fun _ h9 => h9) rfl hnm rfl (by decide +kernel) rfl rfl (Nat.le_of_ble_eq_true rfl) d_X_init_52 (fun H locs hP hD hS => ?_)
  have hP : va_P D ea_cl [(h0, .inr (0, [.ref q1, .ref q2, .ref q3, .ref q4, .ref q5, .ref q6, .ref q7, .null, .int 0, .long 0])), (q1, .inl (cI, 4, .inl (fun _ => 0))), (q2, .inl (cI, 4, .inl (fun _ => 0))), (q3, .inl (cJ, 4, .inr (.inl (fun _ => 0)))), (q4, .inl (cI, 4, .inl (fun _ => 0))), (q5, .inl (cI, 240, .inl (fun _ => 0))), (q6, .inl (cI, 4, .inl (fun _ => 0))), (q7, .inl (cI, 4, .inl (fun _ => 0)))] H := hP
  have hD : va_D A [(h0, .inr (0, [.ref q1, .ref q2, .ref q3, .ref q4, .ref q5, .ref q6, .ref q7, .null, .int 0, .long 0])), (q1, .inl (cI, 4, .inl (fun _ => 0))), (q2, .inl (cI, 4, .inl (fun _ => 0))), (q3, .inl (cJ, 4, .inr (.inl (fun _ => 0)))), (q4, .inl (cI, 4, .inl (fun _ => 0))), (q5, .inl (cI, 240, .inl (fun _ => 0))), (q6, .inl (cI, 4, .inl (fun _ => 0))), (q7, .inl (cI, 4, .inl (fun _ => 0)))] := hD
  refine lv_aload_n hx hb d_X_init_55 rfl (lv_at hl 0 rfl) ?_
  refine lv_bipush (v := 24) hx hb d_X_init_56 (by decide) ?_
  refine ea_newa (atype := .int) hx hb (hts _ ka_int) rfl (fun _ h => by cases h) hK hP hD hS hA 0 rfl (a0 := (24, .inl (fun _ => 0))) (N' := 24) (fun _ => rfl) (by decide) (by decide) (by decide) (Nat.le_of_ble_eq_true rfl) (Nat.le_of_ble_eq_true rfl) d_X_init_58 (fun q8 H hP hD hS => ?_)
  have hP : va_P D ea_cl [(h0, .inr (0, [.ref q1, .ref q2, .ref q3, .ref q4, .ref q5, .ref q6, .ref q7, .null, .int 0, .long 0])), (q1, .inl (cI, 4, .inl (fun _ => 0))), (q2, .inl (cI, 4, .inl (fun _ => 0))), (q3, .inl (cJ, 4, .inr (.inl (fun _ => 0)))), (q4, .inl (cI, 4, .inl (fun _ => 0))), (q5, .inl (cI, 240, .inl (fun _ => 0))), (q6, .inl (cI, 4, .inl (fun _ => 0))), (q7, .inl (cI, 4, .inl (fun _ => 0))), (q8, .inl (cI, 24, .inl (fun _ => 0)))] H := hP
  have hD : va_D A [(h0, .inr (0, [.ref q1, .ref q2, .ref q3, .ref q4, .ref q5, .ref q6, .ref q7, .null, .int 0, .long 0])), (q1, .inl (cI, 4, .inl (fun _ => 0))), (q2, .inl (cI, 4, .inl (fun _ => 0))), (q3, .inl (cJ, 4, .inr (.inl (fun _ => 0)))), (q4, .inl (cI, 4, .inl (fun _ => 0))), (q5, .inl (cI, 240, .inl (fun _ => 0))), (q6, .inl (cI, 4, .inl (fun _ => 0))), (q7, .inl (cI, 4, .inl (fun _ => 0))), (q8, .inl (cI, 24, .inl (fun _ => 0)))] := hD
  refine va_putF (D := D) (ci := 0) (v := .ref q8) (ty := .array .int) (C := R_X) (T := F_X) (N := 10) hx hb hts i_X t_X t_X_ok n_X hown hK hP hD hS 0 rfl rfl 7 (by decide) (hts _ kf_X_verdicts) (fun _ h9 => h9) rfl hnm rfl (by decide +kernel) rfl rfl (Nat.le_of_ble_eq_true rfl) d_X_init_60 (fun H locs hP hD hS => ?_)
  have hP : va_P D ea_cl [(h0, .inr (0, [.ref q1, .ref q2, .ref q3, .ref q4, .ref q5, .ref q6, .ref q7, .ref q8, .int 0, .long 0])), (q1, .inl (cI, 4, .inl (fun _ => 0))), (q2, .inl (cI, 4, .inl (fun _ => 0))), (q3, .inl (cJ, 4, .inr (.inl (fun _ => 0)))), (q4, .inl (cI, 4, .inl (fun _ => 0))), (q5, .inl (cI, 240, .inl (fun _ => 0))), (q6, .inl (cI, 4, .inl (fun _ => 0))), (q7, .inl (cI, 4, .inl (fun _ => 0))), (q8, .inl (cI, 24, .inl (fun _ => 0)))] H := hP
  have hD : va_D A [(h0, .inr (0, [.ref q1, .ref q2, .ref q3, .ref q4, .ref q5, .ref q6, .ref q7, .ref q8, .int 0, .long 0])), (q1, .inl (cI, 4, .inl (fun _ => 0))), (q2, .inl (cI, 4, .inl (fun _ => 0))), (q3, .inl (cJ, 4, .inr (.inl (fun _ => 0)))), (q4, .inl (cI, 4, .inl (fun _ => 0))), (q5, .inl (cI, 240, .inl (fun _ => 0))), (q6, .inl (cI, 4, .inl (fun _ => 0))), (q7, .inl (cI, 4, .inl (fun _ => 0))), (q8, .inl (cI, 24, .inl (fun _ => 0)))] := hD
  have tail : ∀ (w : Nat) (mk : Int64) (H : Heap) (locs : List Loc) (ls : Array Slot), ea_cx w mk → ea_w x = w → va_P D ea_cl [(h0, .inr (0, [.ref q1, .ref q2, .ref q3, .ref q4, .ref q5, .ref q6, .ref q7, .ref q8, .int (nI w), .long mk])), (q1, .inl (cI, 4, .inl (fun _ => 0))), (q2, .inl (cI, 4, .inl (fun _ => 0))), (q3, .inl (cJ, 4, .inr (.inl (fun _ => 0)))), (q4, .inl (cI, 4, .inl (fun _ => 0))), (q5, .inl (cI, 240, .inl (fun _ => 0))), (q6, .inl (cI, 4, .inl (fun _ => 0))), (q7, .inl (cI, 4, .inl (fun _ => 0))), (q8, .inl (cI, 24, .inl (fun _ => 0)))] H → va_D A [(h0, .inr (0, [.ref q1, .ref q2, .ref q3, .ref q4, .ref q5, .ref q6, .ref q7, .ref q8, .int (nI w), .long mk])), (q1, .inl (cI, 4, .inl (fun _ => 0))), (q2, .inl (cI, 4, .inl (fun _ => 0))), (q3, .inl (cJ, 4, .inr (.inl (fun _ => 0)))), (q4, .inl (cI, 4, .inl (fun _ => 0))), (q5, .inl (cI, 240, .inl (fun _ => 0))), (q6, .inl (cI, 4, .inl (fun _ => 0))), (q7, .inl (cI, 4, .inl (fun _ => 0))), (q8, .inl (cI, 24, .inl (fun _ => 0)))] → va_S A s.heap H locs → lv_has ls 3 [(0, .ref h0)] → W p l e ({ frames := 1, cells := 8, slots := 288, locals := 12 } : Room) s m [.ref h0, .int x].toArray below meth c H locs 8 288 (MQ below (va_Qv (ea_QI h0 sz (ea_w x)) (fun a t => ea_PI D cI cJ (nI (ea_w x)) a t.heap) A) [.ref h0, .int x].toArray s 8 288 A) (F0 m 119 ls []) := by
    intro w mk H locs ls hcx hwx hP hD hS hl
    refine lv_iconst (v := (nI 0)) hx hb d_X_init_119 (by decide) ?_
    refine lv_istore_n (lv' := [(2, .int ((nI 0))), (0, .ref h0)]) hx hb d_X_init_120 rfl hl (by decide) rfl (fun ls hl => ?_)
    refine lv_iload_n hx hb d_X_init_121 rfl (lv_at hl 0 rfl) ?_
    refine lv_iconst (v := (nI 4)) hx hb d_X_init_122 (by decide) ?_
    refine lv_icmp_ge (tgt := 148) hx hb d_X_init_123 (by decide) (fun c9 => absurd c9 (by decide)) (fun _ => ?_)
    refine lv_aload_n hx hb d_X_init_126 rfl (lv_at hl 1 rfl) ?_
    refine va_get (ci := 0) (C := R_X) (T := F_X) (N := 10) hx hb hts i_X hown hK hP 0 rfl rfl 5 (by decide) (hts _ kf_X_soft) (fun _ h => h) rfl d_X_init_127 ?_
    refine lv_iload_n hx hb d_X_init_130 rfl (lv_at hl 0 rfl) ?_
    refine lv_bipush (v := (nI 40)) hx hb d_X_init_131 (by decide) ?_
    refine ea_ist hx hb hK hP hD hS 6 0 rfl rfl (0) rfl (by decide) (by decide) d_X_init_133 (fun sf1 H locs es1 hP hD hS => ?_)
    have hP : va_P D ea_cl [(h0, .inr (0, [.ref q1, .ref q2, .ref q3, .ref q4, .ref q5, .ref q6, .ref q7, .ref q8, .int (nI w), .long mk])), (q1, .inl (cI, 4, .inl (fun _ => 0))), (q2, .inl (cI, 4, .inl (fun _ => 0))), (q3, .inl (cJ, 4, .inr (.inl (fun _ => 0)))), (q4, .inl (cI, 4, .inl (fun _ => 0))), (q5, .inl (cI, 240, .inl (fun _ => 0))), (q6, .inl (cI, 4, .inl sf1)), (q7, .inl (cI, 4, .inl (fun _ => 0))), (q8, .inl (cI, 24, .inl (fun _ => 0)))] H := hP
    have hD : va_D A [(h0, .inr (0, [.ref q1, .ref q2, .ref q3, .ref q4, .ref q5, .ref q6, .ref q7, .ref q8, .int (nI w), .long mk])), (q1, .inl (cI, 4, .inl (fun _ => 0))), (q2, .inl (cI, 4, .inl (fun _ => 0))), (q3, .inl (cJ, 4, .inr (.inl (fun _ => 0)))), (q4, .inl (cI, 4, .inl (fun _ => 0))), (q5, .inl (cI, 240, .inl (fun _ => 0))), (q6, .inl (cI, 4, .inl sf1)), (q7, .inl (cI, 4, .inl (fun _ => 0))), (q8, .inl (cI, 24, .inl (fun _ => 0)))] := hD
    have es1 : sf1 = upd (fun _ => 0) 0 ((nI 40)) := es1
    refine lv_aload_n hx hb d_X_init_134 rfl (lv_at hl 1 rfl) ?_
    refine va_get (ci := 0) (C := R_X) (T := F_X) (N := 10) hx hb hts i_X hown hK hP 0 rfl rfl 6 (by decide) (hts _ kf_X_hard) (fun _ h => h) rfl d_X_init_135 ?_
    refine lv_iload_n hx hb d_X_init_138 rfl (lv_at hl 0 rfl) ?_
    refine lv_bipush (v := (nI 60)) hx hb d_X_init_139 (by decide) ?_
    refine ea_ist hx hb hK hP hD hS 7 0 rfl rfl (0) rfl (by decide) (by decide) d_X_init_141 (fun hd1 H locs eh1 hP hD hS => ?_)
    have hP : va_P D ea_cl [(h0, .inr (0, [.ref q1, .ref q2, .ref q3, .ref q4, .ref q5, .ref q6, .ref q7, .ref q8, .int (nI w), .long mk])), (q1, .inl (cI, 4, .inl (fun _ => 0))), (q2, .inl (cI, 4, .inl (fun _ => 0))), (q3, .inl (cJ, 4, .inr (.inl (fun _ => 0)))), (q4, .inl (cI, 4, .inl (fun _ => 0))), (q5, .inl (cI, 240, .inl (fun _ => 0))), (q6, .inl (cI, 4, .inl sf1)), (q7, .inl (cI, 4, .inl hd1)), (q8, .inl (cI, 24, .inl (fun _ => 0)))] H := hP
    have hD : va_D A [(h0, .inr (0, [.ref q1, .ref q2, .ref q3, .ref q4, .ref q5, .ref q6, .ref q7, .ref q8, .int (nI w), .long mk])), (q1, .inl (cI, 4, .inl (fun _ => 0))), (q2, .inl (cI, 4, .inl (fun _ => 0))), (q3, .inl (cJ, 4, .inr (.inl (fun _ => 0)))), (q4, .inl (cI, 4, .inl (fun _ => 0))), (q5, .inl (cI, 240, .inl (fun _ => 0))), (q6, .inl (cI, 4, .inl sf1)), (q7, .inl (cI, 4, .inl hd1)), (q8, .inl (cI, 24, .inl (fun _ => 0)))] := hD
    have eh1 : hd1 = upd (fun _ => 0) 0 ((nI 60)) := eh1
    refine lv_iinc (v := (nI 1)) (lv' := [(2, .int ((nI 1))), (0, .ref h0)]) hx hb d_X_init_142 hl (k := 0) rfl (by decide) (by decide) rfl (fun ls hl => ?_)
    refine lv_goto (tgt := 121) hx hb d_X_init_145 (by decide) ?_
    refine lv_iload_n hx hb d_X_init_121 rfl (lv_at hl 0 rfl) ?_
    refine lv_iconst (v := (nI 4)) hx hb d_X_init_122 (by decide) ?_
    refine lv_icmp_ge (tgt := 148) hx hb d_X_init_123 (by decide) (fun c9 => absurd c9 (by decide)) (fun _ => ?_)
    refine lv_aload_n hx hb d_X_init_126 rfl (lv_at hl 1 rfl) ?_
    refine va_get (ci := 0) (C := R_X) (T := F_X) (N := 10) hx hb hts i_X hown hK hP 0 rfl rfl 5 (by decide) (hts _ kf_X_soft) (fun _ h => h) rfl d_X_init_127 ?_
    refine lv_iload_n hx hb d_X_init_130 rfl (lv_at hl 0 rfl) ?_
    refine lv_bipush (v := (nI 40)) hx hb d_X_init_131 (by decide) ?_
    refine ea_ist hx hb hK hP hD hS 6 0 rfl rfl (1) rfl (by decide) (by decide) d_X_init_133 (fun sf2 H locs es2 hP hD hS => ?_)
    have hP : va_P D ea_cl [(h0, .inr (0, [.ref q1, .ref q2, .ref q3, .ref q4, .ref q5, .ref q6, .ref q7, .ref q8, .int (nI w), .long mk])), (q1, .inl (cI, 4, .inl (fun _ => 0))), (q2, .inl (cI, 4, .inl (fun _ => 0))), (q3, .inl (cJ, 4, .inr (.inl (fun _ => 0)))), (q4, .inl (cI, 4, .inl (fun _ => 0))), (q5, .inl (cI, 240, .inl (fun _ => 0))), (q6, .inl (cI, 4, .inl sf2)), (q7, .inl (cI, 4, .inl hd1)), (q8, .inl (cI, 24, .inl (fun _ => 0)))] H := hP
    have hD : va_D A [(h0, .inr (0, [.ref q1, .ref q2, .ref q3, .ref q4, .ref q5, .ref q6, .ref q7, .ref q8, .int (nI w), .long mk])), (q1, .inl (cI, 4, .inl (fun _ => 0))), (q2, .inl (cI, 4, .inl (fun _ => 0))), (q3, .inl (cJ, 4, .inr (.inl (fun _ => 0)))), (q4, .inl (cI, 4, .inl (fun _ => 0))), (q5, .inl (cI, 240, .inl (fun _ => 0))), (q6, .inl (cI, 4, .inl sf2)), (q7, .inl (cI, 4, .inl hd1)), (q8, .inl (cI, 24, .inl (fun _ => 0)))] := hD
    have es2 : sf2 = upd sf1 1 ((nI 40)) := es2
    refine lv_aload_n hx hb d_X_init_134 rfl (lv_at hl 1 rfl) ?_
    refine va_get (ci := 0) (C := R_X) (T := F_X) (N := 10) hx hb hts i_X hown hK hP 0 rfl rfl 6 (by decide) (hts _ kf_X_hard) (fun _ h => h) rfl d_X_init_135 ?_
    refine lv_iload_n hx hb d_X_init_138 rfl (lv_at hl 0 rfl) ?_
    refine lv_bipush (v := (nI 60)) hx hb d_X_init_139 (by decide) ?_
    refine ea_ist hx hb hK hP hD hS 7 0 rfl rfl (1) rfl (by decide) (by decide) d_X_init_141 (fun hd2 H locs eh2 hP hD hS => ?_)
    have hP : va_P D ea_cl [(h0, .inr (0, [.ref q1, .ref q2, .ref q3, .ref q4, .ref q5, .ref q6, .ref q7, .ref q8, .int (nI w), .long mk])), (q1, .inl (cI, 4, .inl (fun _ => 0))), (q2, .inl (cI, 4, .inl (fun _ => 0))), (q3, .inl (cJ, 4, .inr (.inl (fun _ => 0)))), (q4, .inl (cI, 4, .inl (fun _ => 0))), (q5, .inl (cI, 240, .inl (fun _ => 0))), (q6, .inl (cI, 4, .inl sf2)), (q7, .inl (cI, 4, .inl hd2)), (q8, .inl (cI, 24, .inl (fun _ => 0)))] H := hP
    have hD : va_D A [(h0, .inr (0, [.ref q1, .ref q2, .ref q3, .ref q4, .ref q5, .ref q6, .ref q7, .ref q8, .int (nI w), .long mk])), (q1, .inl (cI, 4, .inl (fun _ => 0))), (q2, .inl (cI, 4, .inl (fun _ => 0))), (q3, .inl (cJ, 4, .inr (.inl (fun _ => 0)))), (q4, .inl (cI, 4, .inl (fun _ => 0))), (q5, .inl (cI, 240, .inl (fun _ => 0))), (q6, .inl (cI, 4, .inl sf2)), (q7, .inl (cI, 4, .inl hd2)), (q8, .inl (cI, 24, .inl (fun _ => 0)))] := hD
    have eh2 : hd2 = upd hd1 1 ((nI 60)) := eh2
    refine lv_iinc (v := (nI 2)) (lv' := [(2, .int ((nI 2))), (0, .ref h0)]) hx hb d_X_init_142 hl (k := 0) rfl (by decide) (by decide) rfl (fun ls hl => ?_)
    refine lv_goto (tgt := 121) hx hb d_X_init_145 (by decide) ?_
    refine lv_iload_n hx hb d_X_init_121 rfl (lv_at hl 0 rfl) ?_
    refine lv_iconst (v := (nI 4)) hx hb d_X_init_122 (by decide) ?_
    refine lv_icmp_ge (tgt := 148) hx hb d_X_init_123 (by decide) (fun c9 => absurd c9 (by decide)) (fun _ => ?_)
    refine lv_aload_n hx hb d_X_init_126 rfl (lv_at hl 1 rfl) ?_
    refine va_get (ci := 0) (C := R_X) (T := F_X) (N := 10) hx hb hts i_X hown hK hP 0 rfl rfl 5 (by decide) (hts _ kf_X_soft) (fun _ h => h) rfl d_X_init_127 ?_
    refine lv_iload_n hx hb d_X_init_130 rfl (lv_at hl 0 rfl) ?_
    refine lv_bipush (v := (nI 40)) hx hb d_X_init_131 (by decide) ?_
    refine ea_ist hx hb hK hP hD hS 6 0 rfl rfl (2) rfl (by decide) (by decide) d_X_init_133 (fun sf3 H locs es3 hP hD hS => ?_)
    have hP : va_P D ea_cl [(h0, .inr (0, [.ref q1, .ref q2, .ref q3, .ref q4, .ref q5, .ref q6, .ref q7, .ref q8, .int (nI w), .long mk])), (q1, .inl (cI, 4, .inl (fun _ => 0))), (q2, .inl (cI, 4, .inl (fun _ => 0))), (q3, .inl (cJ, 4, .inr (.inl (fun _ => 0)))), (q4, .inl (cI, 4, .inl (fun _ => 0))), (q5, .inl (cI, 240, .inl (fun _ => 0))), (q6, .inl (cI, 4, .inl sf3)), (q7, .inl (cI, 4, .inl hd2)), (q8, .inl (cI, 24, .inl (fun _ => 0)))] H := hP
    have hD : va_D A [(h0, .inr (0, [.ref q1, .ref q2, .ref q3, .ref q4, .ref q5, .ref q6, .ref q7, .ref q8, .int (nI w), .long mk])), (q1, .inl (cI, 4, .inl (fun _ => 0))), (q2, .inl (cI, 4, .inl (fun _ => 0))), (q3, .inl (cJ, 4, .inr (.inl (fun _ => 0)))), (q4, .inl (cI, 4, .inl (fun _ => 0))), (q5, .inl (cI, 240, .inl (fun _ => 0))), (q6, .inl (cI, 4, .inl sf3)), (q7, .inl (cI, 4, .inl hd2)), (q8, .inl (cI, 24, .inl (fun _ => 0)))] := hD
    have es3 : sf3 = upd sf2 2 ((nI 40)) := es3
    refine lv_aload_n hx hb d_X_init_134 rfl (lv_at hl 1 rfl) ?_
    refine va_get (ci := 0) (C := R_X) (T := F_X) (N := 10) hx hb hts i_X hown hK hP 0 rfl rfl 6 (by decide) (hts _ kf_X_hard) (fun _ h => h) rfl d_X_init_135 ?_
    refine lv_iload_n hx hb d_X_init_138 rfl (lv_at hl 0 rfl) ?_
    refine lv_bipush (v := (nI 60)) hx hb d_X_init_139 (by decide) ?_
    refine ea_ist hx hb hK hP hD hS 7 0 rfl rfl (2) rfl (by decide) (by decide) d_X_init_141 (fun hd3 H locs eh3 hP hD hS => ?_)
    have hP : va_P D ea_cl [(h0, .inr (0, [.ref q1, .ref q2, .ref q3, .ref q4, .ref q5, .ref q6, .ref q7, .ref q8, .int (nI w), .long mk])), (q1, .inl (cI, 4, .inl (fun _ => 0))), (q2, .inl (cI, 4, .inl (fun _ => 0))), (q3, .inl (cJ, 4, .inr (.inl (fun _ => 0)))), (q4, .inl (cI, 4, .inl (fun _ => 0))), (q5, .inl (cI, 240, .inl (fun _ => 0))), (q6, .inl (cI, 4, .inl sf3)), (q7, .inl (cI, 4, .inl hd3)), (q8, .inl (cI, 24, .inl (fun _ => 0)))] H := hP
    have hD : va_D A [(h0, .inr (0, [.ref q1, .ref q2, .ref q3, .ref q4, .ref q5, .ref q6, .ref q7, .ref q8, .int (nI w), .long mk])), (q1, .inl (cI, 4, .inl (fun _ => 0))), (q2, .inl (cI, 4, .inl (fun _ => 0))), (q3, .inl (cJ, 4, .inr (.inl (fun _ => 0)))), (q4, .inl (cI, 4, .inl (fun _ => 0))), (q5, .inl (cI, 240, .inl (fun _ => 0))), (q6, .inl (cI, 4, .inl sf3)), (q7, .inl (cI, 4, .inl hd3)), (q8, .inl (cI, 24, .inl (fun _ => 0)))] := hD
    have eh3 : hd3 = upd hd2 2 ((nI 60)) := eh3
    refine lv_iinc (v := (nI 3)) (lv' := [(2, .int ((nI 3))), (0, .ref h0)]) hx hb d_X_init_142 hl (k := 0) rfl (by decide) (by decide) rfl (fun ls hl => ?_)
    refine lv_goto (tgt := 121) hx hb d_X_init_145 (by decide) ?_
    refine lv_iload_n hx hb d_X_init_121 rfl (lv_at hl 0 rfl) ?_
    refine lv_iconst (v := (nI 4)) hx hb d_X_init_122 (by decide) ?_
    refine lv_icmp_ge (tgt := 148) hx hb d_X_init_123 (by decide) (fun c9 => absurd c9 (by decide)) (fun _ => ?_)
    refine lv_aload_n hx hb d_X_init_126 rfl (lv_at hl 1 rfl) ?_
    refine va_get (ci := 0) (C := R_X) (T := F_X) (N := 10) hx hb hts i_X hown hK hP 0 rfl rfl 5 (by decide) (hts _ kf_X_soft) (fun _ h => h) rfl d_X_init_127 ?_
    refine lv_iload_n hx hb d_X_init_130 rfl (lv_at hl 0 rfl) ?_
    refine lv_bipush (v := (nI 40)) hx hb d_X_init_131 (by decide) ?_
    refine ea_ist hx hb hK hP hD hS 6 0 rfl rfl (3) rfl (by decide) (by decide) d_X_init_133 (fun sf4 H locs es4 hP hD hS => ?_)
    have hP : va_P D ea_cl [(h0, .inr (0, [.ref q1, .ref q2, .ref q3, .ref q4, .ref q5, .ref q6, .ref q7, .ref q8, .int (nI w), .long mk])), (q1, .inl (cI, 4, .inl (fun _ => 0))), (q2, .inl (cI, 4, .inl (fun _ => 0))), (q3, .inl (cJ, 4, .inr (.inl (fun _ => 0)))), (q4, .inl (cI, 4, .inl (fun _ => 0))), (q5, .inl (cI, 240, .inl (fun _ => 0))), (q6, .inl (cI, 4, .inl sf4)), (q7, .inl (cI, 4, .inl hd3)), (q8, .inl (cI, 24, .inl (fun _ => 0)))] H := hP
    have hD : va_D A [(h0, .inr (0, [.ref q1, .ref q2, .ref q3, .ref q4, .ref q5, .ref q6, .ref q7, .ref q8, .int (nI w), .long mk])), (q1, .inl (cI, 4, .inl (fun _ => 0))), (q2, .inl (cI, 4, .inl (fun _ => 0))), (q3, .inl (cJ, 4, .inr (.inl (fun _ => 0)))), (q4, .inl (cI, 4, .inl (fun _ => 0))), (q5, .inl (cI, 240, .inl (fun _ => 0))), (q6, .inl (cI, 4, .inl sf4)), (q7, .inl (cI, 4, .inl hd3)), (q8, .inl (cI, 24, .inl (fun _ => 0)))] := hD
    have es4 : sf4 = upd sf3 3 ((nI 40)) := es4
    refine lv_aload_n hx hb d_X_init_134 rfl (lv_at hl 1 rfl) ?_
    refine va_get (ci := 0) (C := R_X) (T := F_X) (N := 10) hx hb hts i_X hown hK hP 0 rfl rfl 6 (by decide) (hts _ kf_X_hard) (fun _ h => h) rfl d_X_init_135 ?_
    refine lv_iload_n hx hb d_X_init_138 rfl (lv_at hl 0 rfl) ?_
    refine lv_bipush (v := (nI 60)) hx hb d_X_init_139 (by decide) ?_
    refine ea_ist hx hb hK hP hD hS 7 0 rfl rfl (3) rfl (by decide) (by decide) d_X_init_141 (fun hd4 H locs eh4 hP hD hS => ?_)
    have hP : va_P D ea_cl [(h0, .inr (0, [.ref q1, .ref q2, .ref q3, .ref q4, .ref q5, .ref q6, .ref q7, .ref q8, .int (nI w), .long mk])), (q1, .inl (cI, 4, .inl (fun _ => 0))), (q2, .inl (cI, 4, .inl (fun _ => 0))), (q3, .inl (cJ, 4, .inr (.inl (fun _ => 0)))), (q4, .inl (cI, 4, .inl (fun _ => 0))), (q5, .inl (cI, 240, .inl (fun _ => 0))), (q6, .inl (cI, 4, .inl sf4)), (q7, .inl (cI, 4, .inl hd4)), (q8, .inl (cI, 24, .inl (fun _ => 0)))] H := hP
    have hD : va_D A [(h0, .inr (0, [.ref q1, .ref q2, .ref q3, .ref q4, .ref q5, .ref q6, .ref q7, .ref q8, .int (nI w), .long mk])), (q1, .inl (cI, 4, .inl (fun _ => 0))), (q2, .inl (cI, 4, .inl (fun _ => 0))), (q3, .inl (cJ, 4, .inr (.inl (fun _ => 0)))), (q4, .inl (cI, 4, .inl (fun _ => 0))), (q5, .inl (cI, 240, .inl (fun _ => 0))), (q6, .inl (cI, 4, .inl sf4)), (q7, .inl (cI, 4, .inl hd4)), (q8, .inl (cI, 24, .inl (fun _ => 0)))] := hD
    have eh4 : hd4 = upd hd3 3 ((nI 60)) := eh4
    refine lv_iinc (v := (nI 4)) (lv' := [(2, .int ((nI 4))), (0, .ref h0)]) hx hb d_X_init_142 hl (k := 0) rfl (by decide) (by decide) rfl (fun ls hl => ?_)
    refine lv_goto (tgt := 121) hx hb d_X_init_145 (by decide) ?_
    refine lv_iload_n hx hb d_X_init_121 rfl (lv_at hl 0 rfl) ?_
    refine lv_iconst (v := (nI 4)) hx hb d_X_init_122 (by decide) ?_
    refine lv_icmp_ge (tgt := 148) hx hb d_X_init_123 (by decide) (fun _ => ?_) (fun c9 => absurd (by decide) c9)
    have hkey : ∀ i, i < 9 → ∃ e, ([(h0, .inr (0, [.ref q1, .ref q2, .ref q3, .ref q4, .ref q5, .ref q6, .ref q7, .ref q8, .int (nI w), .long mk])), (q1, .inl (cI, 4, .inl (fun _ => 0))), (q2, .inl (cI, 4, .inl (fun _ => 0))), (q3, .inl (cJ, 4, .inr (.inl (fun _ => 0)))), (q4, .inl (cI, 4, .inl (fun _ => 0))), (q5, .inl (cI, 240, .inl (fun _ => 0))), (q6, .inl (cI, 4, .inl sf4)), (q7, .inl (cI, 4, .inl hd4)), (q8, .inl (cI, 24, .inl (fun _ => 0)))] : va_W)[i]? = some ((fun i => [h0, q1, q2, q3, q4, q5, q6, q7, q8].getD i 0) i, e) := by
      intro i hi
      rcases (show i = 0 ∨ i = 1 ∨ i = 2 ∨ i = 3 ∨ i = 4 ∨ i = 5 ∨ i = 6 ∨ i = 7 ∨ i = 8 by omega) with rfl | rfl | rfl | rfl | rfl | rfl | rfl | rfl | rfl <;> exact ⟨_, rfl⟩
    have hap : ea_ap 9 (fun i => [h0, q1, q2, q3, q4, q5, q6, q7, q8].getD i 0) := fun i j hi hj he => by
      obtain ⟨e1, k1⟩ := hkey i hi
      obtain ⟨e2, k2⟩ := hkey j hj
      exact hD.1 i j _ _ k1 k2 he
    have hfr : ∀ i, 1 ≤ i → i < 9 → sz ≤ (fun i => [h0, q1, q2, q3, q4, q5, q6, q7, q8].getD i 0) i := fun i h1 h2 => by
      obtain ⟨e1, k1⟩ := hkey i h2
      have h3 := hD.2 i _ k1
      rw [← hAe] at h3
      rcases h3 with h3 | h3
      · exact absurd (hap i 0 h2 (by omega) h3) (by omega)
      · exact h3
    have hfin : ea_QI h0 sz (ea_w x) ((fun i => [h0, q1, q2, q3, q4, q5, q6, q7, q8].getD i 0), mk, (fun _ => 0, fun _ => 0, fun _ => 0, fun _ => 0, fun _ => 0, sf4, hd4, fun _ => 0)) := by
      rw [hwx]
      exact ⟨rfl, hap, hfr, hcx, ea_RX0 (ea_up4 es1 es2 es3 es4) (ea_up4 eh1 eh2 eh3 eh4)⟩
    have hPf : ea_PI D cI cJ (nI (ea_w x)) ((fun i => [h0, q1, q2, q3, q4, q5, q6, q7, q8].getD i 0), mk, (fun _ => 0, fun _ => 0, fun _ => 0, fun _ => 0, fun _ => 0, sf4, hd4, fun _ => 0)) H := by
      rw [hwx]
      exact hP
    exact W.vret hx hb hr (fun t ht hW => ⟨⟨_, rfl, hfin, by show ea_PI D cI cJ (nI (ea_w x)) _ t.heap; rw [ht]; exact hPf⟩, hS.F ht⟩) hS.2.2 d_X_init_148 hlocks
  by_cases hx4 : x < 4
  · refine lv_aload_n hx hb d_X_init_63 rfl (lv_at hl 0 rfl) ?_
    refine lv_iload_n hx hb d_X_init_64 rfl (lv_at hl 1 rfl) ?_
    refine lv_iconst (v := (nI 4)) hx hb d_X_init_65 (by decide) ?_
    refine lv_icmp_ge (tgt := 73) hx hb d_X_init_66 (by decide) (fun c9 => absurd c9 (fun h => absurd hx4 (Int32.not_lt.mpr h))) (fun _ => ?_)
    refine lv_iconst (v := (nI 4)) hx hb d_X_init_69 (by decide) ?_
    refine lv_goto (tgt := 74) hx hb d_X_init_70 (by decide) ?_
    refine va_put (D := D) (ci := 0) (v := .int ((nI 4))) (ty := .int) (C := R_X) (T := F_X) (N := 10) hx hb hts i_X t_X t_X_ok n_X hown hK hP hD hS 0 rfl rfl 8 (by decide) (hts _ kf_X_window) (fun _ h9 => h9) rfl (by decide +kernel) rfl rfl (Nat.le_of_ble_eq_true rfl) d_X_init_74 (fun H locs hP hD hS => ?_)
    have hP : va_P D ea_cl [(h0, .inr (0, [.ref q1, .ref q2, .ref q3, .ref q4, .ref q5, .ref q6, .ref q7, .ref q8, .int ((nI 4)), .long 0])), (q1, .inl (cI, 4, .inl (fun _ => 0))), (q2, .inl (cI, 4, .inl (fun _ => 0))), (q3, .inl (cJ, 4, .inr (.inl (fun _ => 0)))), (q4, .inl (cI, 4, .inl (fun _ => 0))), (q5, .inl (cI, 240, .inl (fun _ => 0))), (q6, .inl (cI, 4, .inl (fun _ => 0))), (q7, .inl (cI, 4, .inl (fun _ => 0))), (q8, .inl (cI, 24, .inl (fun _ => 0)))] H := hP
    have hD : va_D A [(h0, .inr (0, [.ref q1, .ref q2, .ref q3, .ref q4, .ref q5, .ref q6, .ref q7, .ref q8, .int ((nI 4)), .long 0])), (q1, .inl (cI, 4, .inl (fun _ => 0))), (q2, .inl (cI, 4, .inl (fun _ => 0))), (q3, .inl (cJ, 4, .inr (.inl (fun _ => 0)))), (q4, .inl (cI, 4, .inl (fun _ => 0))), (q5, .inl (cI, 240, .inl (fun _ => 0))), (q6, .inl (cI, 4, .inl (fun _ => 0))), (q7, .inl (cI, 4, .inl (fun _ => 0))), (q8, .inl (cI, 24, .inl (fun _ => 0)))] := hD
    refine lv_aload_n hx hb d_X_init_77 rfl (lv_at hl 0 rfl) ?_
    refine va_get (ci := 0) (C := R_X) (T := F_X) (N := 10) hx hb hts i_X hown hK hP 0 rfl rfl 8 (by decide) (hts _ kf_X_window) (fun _ h => h) rfl d_X_init_78 ?_
    refine lv_bipush (v := (nI 64)) hx hb d_X_init_81 (by decide) ?_
    refine lv_icmp_le (tgt := 92) hx hb d_X_init_83 (by decide) (fun _ => ?_) (fun c9 => absurd (by decide) c9)
    refine lv_aload_n hx hb d_X_init_92 rfl (lv_at hl 0 rfl) ?_
    refine lv_aload_n hx hb d_X_init_93 rfl (lv_at hl 0 rfl) ?_
    refine va_get (ci := 0) (C := R_X) (T := F_X) (N := 10) hx hb hts i_X hown hK hP 0 rfl rfl 8 (by decide) (hts _ kf_X_window) (fun _ h => h) rfl d_X_init_94 ?_
    refine lv_bipush (v := (nI 64)) hx hb d_X_init_97 (by decide) ?_
    refine lv_icmp_ne (tgt := 108) hx hb d_X_init_99 (by decide) (fun _ => ?_) (fun c9 => absurd c9 (by decide))
    refine lv_lconst (v := 1) hx hb d_X_init_108 (by decide) ?_
    refine lv_aload_n hx hb d_X_init_109 rfl (lv_at hl 0 rfl) ?_
    refine va_get (ci := 0) (C := R_X) (T := F_X) (N := 10) hx hb hts i_X hown hK hP 0 rfl rfl 8 (by decide) (hts _ kf_X_window) (fun _ h => h) rfl d_X_init_110 ?_
    refine lv_lshl (v := ((1 : Int64) <<< ((((nI 4)) : Int32).toInt64 &&& 63))) hx hb d_X_init_113 (rfl) ?_
    refine lv_lconst (v := 1) hx hb d_X_init_114 (by decide) ?_
    refine lv_lsub hx hb d_X_init_115 ?_
    refine va_put (D := D) (ci := 0) (v := .long ((((1 : Int64) <<< ((((nI 4)) : Int32).toInt64 &&& 63)) - 1))) (ty := .long) (C := R_X) (T := F_X) (N := 10) hx hb hts i_X t_X t_X_ok n_X hown hK hP hD hS 0 rfl rfl 9 (by decide) (hts _ kf_X_mask) (fun _ h9 => h9) rfl (by decide +kernel) rfl rfl (Nat.le_of_ble_eq_true rfl) d_X_init_116 (fun H locs hP hD hS => ?_)
    have hP : va_P D ea_cl [(h0, .inr (0, [.ref q1, .ref q2, .ref q3, .ref q4, .ref q5, .ref q6, .ref q7, .ref q8, .int ((nI 4)), .long ((((1 : Int64) <<< ((((nI 4)) : Int32).toInt64 &&& 63)) - 1))])), (q1, .inl (cI, 4, .inl (fun _ => 0))), (q2, .inl (cI, 4, .inl (fun _ => 0))), (q3, .inl (cJ, 4, .inr (.inl (fun _ => 0)))), (q4, .inl (cI, 4, .inl (fun _ => 0))), (q5, .inl (cI, 240, .inl (fun _ => 0))), (q6, .inl (cI, 4, .inl (fun _ => 0))), (q7, .inl (cI, 4, .inl (fun _ => 0))), (q8, .inl (cI, 24, .inl (fun _ => 0)))] H := hP
    have hD : va_D A [(h0, .inr (0, [.ref q1, .ref q2, .ref q3, .ref q4, .ref q5, .ref q6, .ref q7, .ref q8, .int ((nI 4)), .long ((((1 : Int64) <<< ((((nI 4)) : Int32).toInt64 &&& 63)) - 1))])), (q1, .inl (cI, 4, .inl (fun _ => 0))), (q2, .inl (cI, 4, .inl (fun _ => 0))), (q3, .inl (cJ, 4, .inr (.inl (fun _ => 0)))), (q4, .inl (cI, 4, .inl (fun _ => 0))), (q5, .inl (cI, 240, .inl (fun _ => 0))), (q6, .inl (cI, 4, .inl (fun _ => 0))), (q7, .inl (cI, 4, .inl (fun _ => 0))), (q8, .inl (cI, 24, .inl (fun _ => 0)))] := hD
    exact tail 4 (((1 : Int64) <<< ((nI 4 : Int32).toInt64 &&& 63)) - 1) _ _ ls (⟨by decide, by decide, ea_mkw 4 (by decide)⟩) (if_pos hx4) hP hD hS (lv_sub hl [0] rfl)
  · by_cases hx64 : 64 < x
    · refine lv_aload_n hx hb d_X_init_63 rfl (lv_at hl 0 rfl) ?_
      refine lv_iload_n hx hb d_X_init_64 rfl (lv_at hl 1 rfl) ?_
      refine lv_iconst (v := (nI 4)) hx hb d_X_init_65 (by decide) ?_
      refine lv_icmp_ge (tgt := 73) hx hb d_X_init_66 (by decide) (fun _ => ?_) (fun c9 => absurd (Int32.not_lt.mp hx4) c9)
      refine lv_iload_n hx hb d_X_init_73 rfl (lv_at hl 1 rfl) ?_
      refine va_put (D := D) (ci := 0) (v := .int x) (ty := .int) (C := R_X) (T := F_X) (N := 10) hx hb hts i_X t_X t_X_ok n_X hown hK hP hD hS 0 rfl rfl 8 (by decide) (hts _ kf_X_window) (fun _ h9 => h9) rfl (by decide +kernel) rfl rfl (Nat.le_of_ble_eq_true rfl) d_X_init_74 (fun H locs hP hD hS => ?_)
      have hP : va_P D ea_cl [(h0, .inr (0, [.ref q1, .ref q2, .ref q3, .ref q4, .ref q5, .ref q6, .ref q7, .ref q8, .int x, .long 0])), (q1, .inl (cI, 4, .inl (fun _ => 0))), (q2, .inl (cI, 4, .inl (fun _ => 0))), (q3, .inl (cJ, 4, .inr (.inl (fun _ => 0)))), (q4, .inl (cI, 4, .inl (fun _ => 0))), (q5, .inl (cI, 240, .inl (fun _ => 0))), (q6, .inl (cI, 4, .inl (fun _ => 0))), (q7, .inl (cI, 4, .inl (fun _ => 0))), (q8, .inl (cI, 24, .inl (fun _ => 0)))] H := hP
      have hD : va_D A [(h0, .inr (0, [.ref q1, .ref q2, .ref q3, .ref q4, .ref q5, .ref q6, .ref q7, .ref q8, .int x, .long 0])), (q1, .inl (cI, 4, .inl (fun _ => 0))), (q2, .inl (cI, 4, .inl (fun _ => 0))), (q3, .inl (cJ, 4, .inr (.inl (fun _ => 0)))), (q4, .inl (cI, 4, .inl (fun _ => 0))), (q5, .inl (cI, 240, .inl (fun _ => 0))), (q6, .inl (cI, 4, .inl (fun _ => 0))), (q7, .inl (cI, 4, .inl (fun _ => 0))), (q8, .inl (cI, 24, .inl (fun _ => 0)))] := hD
      refine lv_aload_n hx hb d_X_init_77 rfl (lv_at hl 0 rfl) ?_
      refine va_get (ci := 0) (C := R_X) (T := F_X) (N := 10) hx hb hts i_X hown hK hP 0 rfl rfl 8 (by decide) (hts _ kf_X_window) (fun _ h => h) rfl d_X_init_78 ?_
      refine lv_bipush (v := (nI 64)) hx hb d_X_init_81 (by decide) ?_
      refine lv_icmp_le (tgt := 92) hx hb d_X_init_83 (by decide) (fun c9 => absurd c9 (Int32.not_le.mpr hx64)) (fun _ => ?_)
      refine lv_aload_n hx hb d_X_init_86 rfl (lv_at hl 0 rfl) ?_
      refine lv_bipush (v := (nI 64)) hx hb d_X_init_87 (by decide) ?_
      refine va_put (D := D) (ci := 0) (v := .int ((nI 64))) (ty := .int) (C := R_X) (T := F_X) (N := 10) hx hb hts i_X t_X t_X_ok n_X hown hK hP hD hS 0 rfl rfl 8 (by decide) (hts _ kf_X_window) (fun _ h9 => h9) rfl (by decide +kernel) rfl rfl (Nat.le_of_ble_eq_true rfl) d_X_init_89 (fun H locs hP hD hS => ?_)
      have hP : va_P D ea_cl [(h0, .inr (0, [.ref q1, .ref q2, .ref q3, .ref q4, .ref q5, .ref q6, .ref q7, .ref q8, .int ((nI 64)), .long 0])), (q1, .inl (cI, 4, .inl (fun _ => 0))), (q2, .inl (cI, 4, .inl (fun _ => 0))), (q3, .inl (cJ, 4, .inr (.inl (fun _ => 0)))), (q4, .inl (cI, 4, .inl (fun _ => 0))), (q5, .inl (cI, 240, .inl (fun _ => 0))), (q6, .inl (cI, 4, .inl (fun _ => 0))), (q7, .inl (cI, 4, .inl (fun _ => 0))), (q8, .inl (cI, 24, .inl (fun _ => 0)))] H := hP
      have hD : va_D A [(h0, .inr (0, [.ref q1, .ref q2, .ref q3, .ref q4, .ref q5, .ref q6, .ref q7, .ref q8, .int ((nI 64)), .long 0])), (q1, .inl (cI, 4, .inl (fun _ => 0))), (q2, .inl (cI, 4, .inl (fun _ => 0))), (q3, .inl (cJ, 4, .inr (.inl (fun _ => 0)))), (q4, .inl (cI, 4, .inl (fun _ => 0))), (q5, .inl (cI, 240, .inl (fun _ => 0))), (q6, .inl (cI, 4, .inl (fun _ => 0))), (q7, .inl (cI, 4, .inl (fun _ => 0))), (q8, .inl (cI, 24, .inl (fun _ => 0)))] := hD
      refine lv_aload_n hx hb d_X_init_92 rfl (lv_at hl 0 rfl) ?_
      refine lv_aload_n hx hb d_X_init_93 rfl (lv_at hl 0 rfl) ?_
      refine va_get (ci := 0) (C := R_X) (T := F_X) (N := 10) hx hb hts i_X hown hK hP 0 rfl rfl 8 (by decide) (hts _ kf_X_window) (fun _ h => h) rfl d_X_init_94 ?_
      refine lv_bipush (v := (nI 64)) hx hb d_X_init_97 (by decide) ?_
      refine lv_icmp_ne (tgt := 108) hx hb d_X_init_99 (by decide) (fun c9 => absurd (rfl) c9) (fun _ => ?_)
      refine lv_ldc2 (v := (-1)) hx hb hown (hts _ kk_39) d_X_init_102 ?_
      refine lv_goto (tgt := 116) hx hb d_X_init_105 (by decide) ?_
      refine va_put (D := D) (ci := 0) (v := .long (-1)) (ty := .long) (C := R_X) (T := F_X) (N := 10) hx hb hts i_X t_X t_X_ok n_X hown hK hP hD hS 0 rfl rfl 9 (by decide) (hts _ kf_X_mask) (fun _ h9 => h9) rfl (by decide +kernel) rfl rfl (Nat.le_of_ble_eq_true rfl) d_X_init_116 (fun H locs hP hD hS => ?_)
      have hP : va_P D ea_cl [(h0, .inr (0, [.ref q1, .ref q2, .ref q3, .ref q4, .ref q5, .ref q6, .ref q7, .ref q8, .int ((nI 64)), .long (-1)])), (q1, .inl (cI, 4, .inl (fun _ => 0))), (q2, .inl (cI, 4, .inl (fun _ => 0))), (q3, .inl (cJ, 4, .inr (.inl (fun _ => 0)))), (q4, .inl (cI, 4, .inl (fun _ => 0))), (q5, .inl (cI, 240, .inl (fun _ => 0))), (q6, .inl (cI, 4, .inl (fun _ => 0))), (q7, .inl (cI, 4, .inl (fun _ => 0))), (q8, .inl (cI, 24, .inl (fun _ => 0)))] H := hP
      have hD : va_D A [(h0, .inr (0, [.ref q1, .ref q2, .ref q3, .ref q4, .ref q5, .ref q6, .ref q7, .ref q8, .int ((nI 64)), .long (-1)])), (q1, .inl (cI, 4, .inl (fun _ => 0))), (q2, .inl (cI, 4, .inl (fun _ => 0))), (q3, .inl (cJ, 4, .inr (.inl (fun _ => 0)))), (q4, .inl (cI, 4, .inl (fun _ => 0))), (q5, .inl (cI, 240, .inl (fun _ => 0))), (q6, .inl (cI, 4, .inl (fun _ => 0))), (q7, .inl (cI, 4, .inl (fun _ => 0))), (q8, .inl (cI, 24, .inl (fun _ => 0)))] := hD
      exact tail 64 (-1) _ _ ls (⟨by decide, by decide, ea_mk64⟩) (by unfold ea_w; rw [if_neg hx4, if_pos hx64]) hP hD hS (lv_sub hl [0] rfl)
    · obtain ⟨n, hn4, hn64, hxn, hwn⟩ := ea_wB hx4 hx64
      refine lv_aload_n hx hb d_X_init_63 rfl (lv_at hl 0 rfl) ?_
      refine lv_iload_n hx hb d_X_init_64 rfl (lv_at hl 1 rfl) ?_
      refine lv_iconst (v := (nI 4)) hx hb d_X_init_65 (by decide) ?_
      refine lv_icmp_ge (tgt := 73) hx hb d_X_init_66 (by decide) (fun _ => ?_) (fun c9 => absurd (Int32.not_lt.mp hx4) c9)
      refine lv_iload_n hx hb d_X_init_73 rfl (lv_at hl 1 rfl) ?_
      refine ea_ti (y := (nI n)) (hxn) ?_
      refine va_put (D := D) (ci := 0) (v := .int ((nI n))) (ty := .int) (C := R_X) (T := F_X) (N := 10) hx hb hts i_X t_X t_X_ok n_X hown hK hP hD hS 0 rfl rfl 8 (by decide) (hts _ kf_X_window) (fun _ h9 => h9) rfl (by decide +kernel) rfl rfl (Nat.le_of_ble_eq_true rfl) d_X_init_74 (fun H locs hP hD hS => ?_)
      have hP : va_P D ea_cl [(h0, .inr (0, [.ref q1, .ref q2, .ref q3, .ref q4, .ref q5, .ref q6, .ref q7, .ref q8, .int ((nI n)), .long 0])), (q1, .inl (cI, 4, .inl (fun _ => 0))), (q2, .inl (cI, 4, .inl (fun _ => 0))), (q3, .inl (cJ, 4, .inr (.inl (fun _ => 0)))), (q4, .inl (cI, 4, .inl (fun _ => 0))), (q5, .inl (cI, 240, .inl (fun _ => 0))), (q6, .inl (cI, 4, .inl (fun _ => 0))), (q7, .inl (cI, 4, .inl (fun _ => 0))), (q8, .inl (cI, 24, .inl (fun _ => 0)))] H := hP
      have hD : va_D A [(h0, .inr (0, [.ref q1, .ref q2, .ref q3, .ref q4, .ref q5, .ref q6, .ref q7, .ref q8, .int ((nI n)), .long 0])), (q1, .inl (cI, 4, .inl (fun _ => 0))), (q2, .inl (cI, 4, .inl (fun _ => 0))), (q3, .inl (cJ, 4, .inr (.inl (fun _ => 0)))), (q4, .inl (cI, 4, .inl (fun _ => 0))), (q5, .inl (cI, 240, .inl (fun _ => 0))), (q6, .inl (cI, 4, .inl (fun _ => 0))), (q7, .inl (cI, 4, .inl (fun _ => 0))), (q8, .inl (cI, 24, .inl (fun _ => 0)))] := hD
      refine lv_aload_n hx hb d_X_init_77 rfl (lv_at hl 0 rfl) ?_
      refine va_get (ci := 0) (C := R_X) (T := F_X) (N := 10) hx hb hts i_X hown hK hP 0 rfl rfl 8 (by decide) (hts _ kf_X_window) (fun _ h => h) rfl d_X_init_78 ?_
      refine lv_bipush (v := (nI 64)) hx hb d_X_init_81 (by decide) ?_
      refine lv_icmp_le (tgt := 92) hx hb d_X_init_83 (by decide) (fun _ => ?_) (fun c9 => absurd (nI_le (by omega) (by omega)) c9)
      refine lv_aload_n hx hb d_X_init_92 rfl (lv_at hl 0 rfl) ?_
      refine lv_aload_n hx hb d_X_init_93 rfl (lv_at hl 0 rfl) ?_
      refine va_get (ci := 0) (C := R_X) (T := F_X) (N := 10) hx hb hts i_X hown hK hP 0 rfl rfl 8 (by decide) (hts _ kf_X_window) (fun _ h => h) rfl d_X_init_94 ?_
      refine lv_bipush (v := (nI 64)) hx hb d_X_init_97 (by decide) ?_
      refine lv_icmp_ne (tgt := 108) hx hb d_X_init_99 (by decide) (fun c1 => ?_) (fun c1 => ?_)
      · refine lv_lconst (v := 1) hx hb d_X_init_108 (by decide) ?_
        refine lv_aload_n hx hb d_X_init_109 rfl (lv_at hl 0 rfl) ?_
        refine va_get (ci := 0) (C := R_X) (T := F_X) (N := 10) hx hb hts i_X hown hK hP 0 rfl rfl 8 (by decide) (hts _ kf_X_window) (fun _ h => h) rfl d_X_init_110 ?_
        refine lv_lshl (v := ((1 : Int64) <<< ((((nI n)) : Int32).toInt64 &&& 63))) hx hb d_X_init_113 (rfl) ?_
        refine lv_lconst (v := 1) hx hb d_X_init_114 (by decide) ?_
        refine lv_lsub hx hb d_X_init_115 ?_
        refine va_put (D := D) (ci := 0) (v := .long ((((1 : Int64) <<< ((((nI n)) : Int32).toInt64 &&& 63)) - 1))) (ty := .long) (C := R_X) (T := F_X) (N := 10) hx hb hts i_X t_X t_X_ok n_X hown hK hP hD hS 0 rfl rfl 9 (by decide) (hts _ kf_X_mask) (fun _ h9 => h9) rfl (by decide +kernel) rfl rfl (Nat.le_of_ble_eq_true rfl) d_X_init_116 (fun H locs hP hD hS => ?_)
        have hP : va_P D ea_cl [(h0, .inr (0, [.ref q1, .ref q2, .ref q3, .ref q4, .ref q5, .ref q6, .ref q7, .ref q8, .int ((nI n)), .long ((((1 : Int64) <<< ((((nI n)) : Int32).toInt64 &&& 63)) - 1))])), (q1, .inl (cI, 4, .inl (fun _ => 0))), (q2, .inl (cI, 4, .inl (fun _ => 0))), (q3, .inl (cJ, 4, .inr (.inl (fun _ => 0)))), (q4, .inl (cI, 4, .inl (fun _ => 0))), (q5, .inl (cI, 240, .inl (fun _ => 0))), (q6, .inl (cI, 4, .inl (fun _ => 0))), (q7, .inl (cI, 4, .inl (fun _ => 0))), (q8, .inl (cI, 24, .inl (fun _ => 0)))] H := hP
        have hD : va_D A [(h0, .inr (0, [.ref q1, .ref q2, .ref q3, .ref q4, .ref q5, .ref q6, .ref q7, .ref q8, .int ((nI n)), .long ((((1 : Int64) <<< ((((nI n)) : Int32).toInt64 &&& 63)) - 1))])), (q1, .inl (cI, 4, .inl (fun _ => 0))), (q2, .inl (cI, 4, .inl (fun _ => 0))), (q3, .inl (cJ, 4, .inr (.inl (fun _ => 0)))), (q4, .inl (cI, 4, .inl (fun _ => 0))), (q5, .inl (cI, 240, .inl (fun _ => 0))), (q6, .inl (cI, 4, .inl (fun _ => 0))), (q7, .inl (cI, 4, .inl (fun _ => 0))), (q8, .inl (cI, 24, .inl (fun _ => 0)))] := hD
        exact tail n (((1 : Int64) <<< ((nI n : Int32).toInt64 &&& 63)) - 1) _ _ ls (⟨hn4, hn64, ea_mkw n (by have : ¬ n = 64 := fun h => c1 (by rw [h]); omega)⟩) (hwn) hP hD hS (lv_sub hl [0] rfl)
      · have c1 : n = 64 := (nI_eq (by omega) (by omega)).mp c1
        refine lv_ldc2 (v := (-1)) hx hb hown (hts _ kk_39) d_X_init_102 ?_
        refine lv_goto (tgt := 116) hx hb d_X_init_105 (by decide) ?_
        refine va_put (D := D) (ci := 0) (v := .long (-1)) (ty := .long) (C := R_X) (T := F_X) (N := 10) hx hb hts i_X t_X t_X_ok n_X hown hK hP hD hS 0 rfl rfl 9 (by decide) (hts _ kf_X_mask) (fun _ h9 => h9) rfl (by decide +kernel) rfl rfl (Nat.le_of_ble_eq_true rfl) d_X_init_116 (fun H locs hP hD hS => ?_)
        have hP : va_P D ea_cl [(h0, .inr (0, [.ref q1, .ref q2, .ref q3, .ref q4, .ref q5, .ref q6, .ref q7, .ref q8, .int ((nI n)), .long (-1)])), (q1, .inl (cI, 4, .inl (fun _ => 0))), (q2, .inl (cI, 4, .inl (fun _ => 0))), (q3, .inl (cJ, 4, .inr (.inl (fun _ => 0)))), (q4, .inl (cI, 4, .inl (fun _ => 0))), (q5, .inl (cI, 240, .inl (fun _ => 0))), (q6, .inl (cI, 4, .inl (fun _ => 0))), (q7, .inl (cI, 4, .inl (fun _ => 0))), (q8, .inl (cI, 24, .inl (fun _ => 0)))] H := hP
        have hD : va_D A [(h0, .inr (0, [.ref q1, .ref q2, .ref q3, .ref q4, .ref q5, .ref q6, .ref q7, .ref q8, .int ((nI n)), .long (-1)])), (q1, .inl (cI, 4, .inl (fun _ => 0))), (q2, .inl (cI, 4, .inl (fun _ => 0))), (q3, .inl (cJ, 4, .inr (.inl (fun _ => 0)))), (q4, .inl (cI, 4, .inl (fun _ => 0))), (q5, .inl (cI, 240, .inl (fun _ => 0))), (q6, .inl (cI, 4, .inl (fun _ => 0))), (q7, .inl (cI, 4, .inl (fun _ => 0))), (q8, .inl (cI, 24, .inl (fun _ => 0)))] := hD
        exact tail n (-1) _ _ ls (⟨hn4, hn64, by rw [c1]; exact ea_mk64⟩) (hwn) hP hD hS (lv_sub hl [0] rfl)
set_option maxHeartbeats 400000 in
set_option maxRecDepth 100000 in
theorem c_M_init (l : Launch) (D : va_G) (cI cJ : ClassId) (h0 sz : Nat) (x : Int32) : Met l y_M_init (.code y_M_init b_M_init 3 none :: ea_tb) ({ frames := 1, cells := 5, slots := 284, locals := 12 } : Room) (va_Pc [.ref h0, .int x] (fun U => U.heap.size = sz ∧ va_P D ea_cl [(h0, .inr (1, [.int 0, .null, .null, .null, .null, .null]))] U.heap ∧ va_K D ea_cl (ea_ty cI cJ) U ∧ h0 < sz)) (va_Qv (ea_QJ h0 sz) (fun a t => ea_PJ D cI (nI (ea_w x)) a t.heap) (ea_A0 h0 sz)) 5 284 (ea_A0 h0 sz) := by
  refine ea_start (by decide) (Nat.le_of_ble_eq_true rfl) ?_
  intro p e s m below meth c ls hx hb hr hlocks hml hown hts hnm hB hl
  have hown : s.vm.findClass R_M = some m.cls := hown
  have hl : lv_has ls 3 [(0, .ref h0), (1, .int x)] := hl
  obtain ⟨hsz, hP, hK, hlt⟩ := hB
  generalize hAe : ea_A0 h0 sz = A
  have hA : ∀ q : Nat, s.heap.size ≤ q → A q := fun q h => by rw [← hAe]; exact Or.inr (by rw [← hsz]; exact h)
  have hA0 : A h0 := by rw [← hAe]; exact Or.inl rfl
  have hS : va_S A s.heap s.heap [] := va_S.rf
  have hD : va_D A [(h0, .inr (1, [.int 0, .null, .null, .null, .null, .null]))] := ⟨fun i j a b ha hb _ => by have h1 := (List.getElem?_eq_some_iff.mp ha).1; have h2 := (List.getElem?_eq_some_iff.mp hb).1; simp at h1 h2; omega, fun k a ha => by have h1 := (List.getElem?_eq_some_iff.mp ha).1; simp at h1; subst h1; cases ha; exact hA0⟩
  refine lv_aload_n hx hb d_M_init_0 rfl (lv_at hl 0 rfl) ?_
  refine W.objInit hx hb hown (hts _ kl_M_1) (hts _ kn_obj) (hts _ kc_obj) rfl (by rw [hml]; exact hl.1) rfl d_M_init_1 (Nat.le_of_ble_eq_true rfl) (Nat.le_of_ble_eq_true rfl) ?_
  refine W.eq (g2 := F0 m 4 ls []) rfl ?_
  refine lv_aload_n hx hb d_M_init_4 rfl (lv_at hl 0 rfl) ?_
  refine lv_sipush (v := 240) hx hb d_M_init_5 (by decide) ?_
  refine ea_newa (atype := .int) hx hb (hts _ ka_int) rfl (fun _ h => by cases h) hK hP hD hS hA 0 rfl (a0 := (240, .inl (fun _ => 0))) (N' := 240) (fun _ => rfl) (by decide) (by decide) (by decide) (Nat.le_of_ble_eq_true rfl) (Nat.le_of_ble_eq_true rfl) d_M_init_8 (fun q1 H hP hD hS => ?_)
  have hP : va_P D ea_cl [(h0, .inr (1, [.int 0, .null, .null, .null, .null, .null])), (q1, .inl (cI, 240, .inl (fun _ => 0)))] H := hP
  have hD : va_D A [(h0, .inr (1, [.int 0, .null, .null, .null, .null, .null])), (q1, .inl (cI, 240, .inl (fun _ => 0)))] := hD
  refine va_put (D := D) (ci := 1) (v := .ref q1) (ty := .array .int) (C := R_M) (T := F_M) (N := 6) hx hb hts i_M t_M t_M_ok n_M hown hK hP hD hS 0 rfl rfl 1 (by decide) (hts _ kf_M_number) (fun _ h9 => h9) rfl (by decide +kernel) rfl rfl (Nat.le_of_ble_eq_true rfl) d_M_init_10 (fun H locs hP hD hS => ?_)
  have hP : va_P D ea_cl [(h0, .inr (1, [.int 0, .ref q1, .null, .null, .null, .null])), (q1, .inl (cI, 240, .inl (fun _ => 0)))] H := hP
  have hD : va_D A [(h0, .inr (1, [.int 0, .ref q1, .null, .null, .null, .null])), (q1, .inl (cI, 240, .inl (fun _ => 0)))] := hD
  refine lv_aload_n hx hb d_M_init_13 rfl (lv_at hl 0 rfl) ?_
  refine lv_iconst (v := 4) hx hb d_M_init_14 (by decide) ?_
  refine ea_newa (atype := .int) hx hb (hts _ ka_int) rfl (fun _ h => by cases h) hK hP hD hS hA 0 rfl (a0 := (4, .inl (fun _ => 0))) (N' := 4) (fun _ => rfl) (by decide) (by decide) (by decide) (Nat.le_of_ble_eq_true rfl) (Nat.le_of_ble_eq_true rfl) d_M_init_15 (fun q2 H hP hD hS => ?_)
  have hP : va_P D ea_cl [(h0, .inr (1, [.int 0, .ref q1, .null, .null, .null, .null])), (q1, .inl (cI, 240, .inl (fun _ => 0))), (q2, .inl (cI, 4, .inl (fun _ => 0)))] H := hP
  have hD : va_D A [(h0, .inr (1, [.int 0, .ref q1, .null, .null, .null, .null])), (q1, .inl (cI, 240, .inl (fun _ => 0))), (q2, .inl (cI, 4, .inl (fun _ => 0)))] := hD
  refine va_put (D := D) (ci := 1) (v := .ref q2) (ty := .array .int) (C := R_M) (T := F_M) (N := 6) hx hb hts i_M t_M t_M_ok n_M hown hK hP hD hS 0 rfl rfl 2 (by decide) (hts _ kf_M_many) (fun _ h9 => h9) rfl (by decide +kernel) rfl rfl (Nat.le_of_ble_eq_true rfl) d_M_init_17 (fun H locs hP hD hS => ?_)
  have hP : va_P D ea_cl [(h0, .inr (1, [.int 0, .ref q1, .ref q2, .null, .null, .null])), (q1, .inl (cI, 240, .inl (fun _ => 0))), (q2, .inl (cI, 4, .inl (fun _ => 0)))] H := hP
  have hD : va_D A [(h0, .inr (1, [.int 0, .ref q1, .ref q2, .null, .null, .null])), (q1, .inl (cI, 240, .inl (fun _ => 0))), (q2, .inl (cI, 4, .inl (fun _ => 0)))] := hD
  refine lv_aload_n hx hb d_M_init_20 rfl (lv_at hl 0 rfl) ?_
  refine lv_iconst (v := 4) hx hb d_M_init_21 (by decide) ?_
  refine ea_newa (atype := .int) hx hb (hts _ ka_int) rfl (fun _ h => by cases h) hK hP hD hS hA 0 rfl (a0 := (4, .inl (fun _ => 0))) (N' := 4) (fun _ => rfl) (by decide) (by decide) (by decide) (Nat.le_of_ble_eq_true rfl) (Nat.le_of_ble_eq_true rfl) d_M_init_22 (fun q3 H hP hD hS => ?_)
  have hP : va_P D ea_cl [(h0, .inr (1, [.int 0, .ref q1, .ref q2, .null, .null, .null])), (q1, .inl (cI, 240, .inl (fun _ => 0))), (q2, .inl (cI, 4, .inl (fun _ => 0))), (q3, .inl (cI, 4, .inl (fun _ => 0)))] H := hP
  have hD : va_D A [(h0, .inr (1, [.int 0, .ref q1, .ref q2, .null, .null, .null])), (q1, .inl (cI, 240, .inl (fun _ => 0))), (q2, .inl (cI, 4, .inl (fun _ => 0))), (q3, .inl (cI, 4, .inl (fun _ => 0)))] := hD
  refine va_put (D := D) (ci := 1) (v := .ref q3) (ty := .array .int) (C := R_M) (T := F_M) (N := 6) hx hb hts i_M t_M t_M_ok n_M hown hK hP hD hS 0 rfl rfl 3 (by decide) (hts _ kf_M_soft) (fun _ h9 => h9) rfl (by decide +kernel) rfl rfl (Nat.le_of_ble_eq_true rfl) d_M_init_24 (fun H locs hP hD hS => ?_)
  have hP : va_P D ea_cl [(h0, .inr (1, [.int 0, .ref q1, .ref q2, .ref q3, .null, .null])), (q1, .inl (cI, 240, .inl (fun _ => 0))), (q2, .inl (cI, 4, .inl (fun _ => 0))), (q3, .inl (cI, 4, .inl (fun _ => 0)))] H := hP
  have hD : va_D A [(h0, .inr (1, [.int 0, .ref q1, .ref q2, .ref q3, .null, .null])), (q1, .inl (cI, 240, .inl (fun _ => 0))), (q2, .inl (cI, 4, .inl (fun _ => 0))), (q3, .inl (cI, 4, .inl (fun _ => 0)))] := hD
  refine lv_aload_n hx hb d_M_init_27 rfl (lv_at hl 0 rfl) ?_
  refine lv_iconst (v := 4) hx hb d_M_init_28 (by decide) ?_
  refine ea_newa (atype := .int) hx hb (hts _ ka_int) rfl (fun _ h => by cases h) hK hP hD hS hA 0 rfl (a0 := (4, .inl (fun _ => 0))) (N' := 4) (fun _ => rfl) (by decide) (by decide) (by decide) (Nat.le_of_ble_eq_true rfl) (Nat.le_of_ble_eq_true rfl) d_M_init_29 (fun q4 H hP hD hS => ?_)
  have hP : va_P D ea_cl [(h0, .inr (1, [.int 0, .ref q1, .ref q2, .ref q3, .null, .null])), (q1, .inl (cI, 240, .inl (fun _ => 0))), (q2, .inl (cI, 4, .inl (fun _ => 0))), (q3, .inl (cI, 4, .inl (fun _ => 0))), (q4, .inl (cI, 4, .inl (fun _ => 0)))] H := hP
  have hD : va_D A [(h0, .inr (1, [.int 0, .ref q1, .ref q2, .ref q3, .null, .null])), (q1, .inl (cI, 240, .inl (fun _ => 0))), (q2, .inl (cI, 4, .inl (fun _ => 0))), (q3, .inl (cI, 4, .inl (fun _ => 0))), (q4, .inl (cI, 4, .inl (fun _ => 0)))] := hD
  refine va_put (D := D) (ci := 1) (v := .ref q4) (ty := .array .int) (C := R_M) (T := F_M) (N := 6) hx hb hts i_M t_M t_M_ok n_M hown hK hP hD hS 0 rfl rfl 4 (by decide) (hts _ kf_M_hard) (fun _ h9 => h9) rfl (by decide +kernel) rfl rfl (Nat.le_of_ble_eq_true rfl) d_M_init_31 (fun H locs hP hD hS => ?_)
  have hP : va_P D ea_cl [(h0, .inr (1, [.int 0, .ref q1, .ref q2, .ref q3, .ref q4, .null])), (q1, .inl (cI, 240, .inl (fun _ => 0))), (q2, .inl (cI, 4, .inl (fun _ => 0))), (q3, .inl (cI, 4, .inl (fun _ => 0))), (q4, .inl (cI, 4, .inl (fun _ => 0)))] H := hP
  have hD : va_D A [(h0, .inr (1, [.int 0, .ref q1, .ref q2, .ref q3, .ref q4, .null])), (q1, .inl (cI, 240, .inl (fun _ => 0))), (q2, .inl (cI, 4, .inl (fun _ => 0))), (q3, .inl (cI, 4, .inl (fun _ => 0))), (q4, .inl (cI, 4, .inl (fun _ => 0)))] := hD
  refine lv_aload_n hx hb d_M_init_34 rfl (lv_at hl 0 rfl) ?_
  refine lv_bipush (v := 32) hx hb d_M_init_35 (by decide) ?_
  refine ea_newa (atype := .int) hx hb (hts _ ka_int) rfl (fun _ h => by cases h) hK hP hD hS hA 0 rfl (a0 := (32, .inl (fun _ => 0))) (N' := 32) (fun _ => rfl) (by decide) (by decide) (by decide) (Nat.le_of_ble_eq_true rfl) (Nat.le_of_ble_eq_true rfl) d_M_init_37 (fun q5 H hP hD hS => ?_)
  have hP : va_P D ea_cl [(h0, .inr (1, [.int 0, .ref q1, .ref q2, .ref q3, .ref q4, .null])), (q1, .inl (cI, 240, .inl (fun _ => 0))), (q2, .inl (cI, 4, .inl (fun _ => 0))), (q3, .inl (cI, 4, .inl (fun _ => 0))), (q4, .inl (cI, 4, .inl (fun _ => 0))), (q5, .inl (cI, 32, .inl (fun _ => 0)))] H := hP
  have hD : va_D A [(h0, .inr (1, [.int 0, .ref q1, .ref q2, .ref q3, .ref q4, .null])), (q1, .inl (cI, 240, .inl (fun _ => 0))), (q2, .inl (cI, 4, .inl (fun _ => 0))), (q3, .inl (cI, 4, .inl (fun _ => 0))), (q4, .inl (cI, 4, .inl (fun _ => 0))), (q5, .inl (cI, 32, .inl (fun _ => 0)))] := hD
  refine va_put (D := D) (ci := 1) (v := .ref q5) (ty := .array .int) (C := R_M) (T := F_M) (N := 6) hx hb hts i_M t_M t_M_ok n_M hown hK hP hD hS 0 rfl rfl 5 (by decide) (hts _ kf_M_verdicts) (fun _ h9 => h9) rfl (by decide +kernel) rfl rfl (Nat.le_of_ble_eq_true rfl) d_M_init_39 (fun H locs hP hD hS => ?_)
  have hP : va_P D ea_cl [(h0, .inr (1, [.int 0, .ref q1, .ref q2, .ref q3, .ref q4, .ref q5])), (q1, .inl (cI, 240, .inl (fun _ => 0))), (q2, .inl (cI, 4, .inl (fun _ => 0))), (q3, .inl (cI, 4, .inl (fun _ => 0))), (q4, .inl (cI, 4, .inl (fun _ => 0))), (q5, .inl (cI, 32, .inl (fun _ => 0)))] H := hP
  have hD : va_D A [(h0, .inr (1, [.int 0, .ref q1, .ref q2, .ref q3, .ref q4, .ref q5])), (q1, .inl (cI, 240, .inl (fun _ => 0))), (q2, .inl (cI, 4, .inl (fun _ => 0))), (q3, .inl (cI, 4, .inl (fun _ => 0))), (q4, .inl (cI, 4, .inl (fun _ => 0))), (q5, .inl (cI, 32, .inl (fun _ => 0)))] := hD
  have tail : ∀ (H : Heap) (locs : List Loc) (ls : Array Slot), va_P D ea_cl [(h0, .inr (1, [.int (nI (ea_w x)), .ref q1, .ref q2, .ref q3, .ref q4, .ref q5])), (q1, .inl (cI, 240, .inl (fun _ => 0))), (q2, .inl (cI, 4, .inl (fun _ => 0))), (q3, .inl (cI, 4, .inl (fun _ => 0))), (q4, .inl (cI, 4, .inl (fun _ => 0))), (q5, .inl (cI, 32, .inl (fun _ => 0)))] H → va_D A [(h0, .inr (1, [.int (nI (ea_w x)), .ref q1, .ref q2, .ref q3, .ref q4, .ref q5])), (q1, .inl (cI, 240, .inl (fun _ => 0))), (q2, .inl (cI, 4, .inl (fun _ => 0))), (q3, .inl (cI, 4, .inl (fun _ => 0))), (q4, .inl (cI, 4, .inl (fun _ => 0))), (q5, .inl (cI, 32, .inl (fun _ => 0)))] → va_S A s.heap H locs → lv_has ls 3 [(0, .ref h0)] → W p l e ({ frames := 1, cells := 5, slots := 284, locals := 12 } : Room) s m [.ref h0, .int x].toArray below meth c H locs 5 284 (MQ below (va_Qv (ea_QJ h0 sz) (fun a t => ea_PJ D cI (nI (ea_w x)) a t.heap) A) [.ref h0, .int x].toArray s 5 284 A) (F0 m 67 ls []) := by
    intro H locs ls hP hD hS hl
    refine lv_iconst (v := (nI 0)) hx hb d_M_init_67 (by decide) ?_
    refine lv_istore_n (lv' := [(2, .int ((nI 0))), (0, .ref h0)]) hx hb d_M_init_68 rfl hl (by decide) rfl (fun ls hl => ?_)
    refine lv_iload_n hx hb d_M_init_69 rfl (lv_at hl 0 rfl) ?_
    refine lv_iconst (v := (nI 4)) hx hb d_M_init_70 (by decide) ?_
    refine lv_icmp_ge (tgt := 96) hx hb d_M_init_71 (by decide) (fun c9 => absurd c9 (by decide)) (fun _ => ?_)
    refine lv_aload_n hx hb d_M_init_74 rfl (lv_at hl 1 rfl) ?_
    refine va_get (ci := 1) (C := R_M) (T := F_M) (N := 6) hx hb hts i_M hown hK hP 0 rfl rfl 3 (by decide) (hts _ kf_M_soft) (fun _ h => h) rfl d_M_init_75 ?_
    refine lv_iload_n hx hb d_M_init_78 rfl (lv_at hl 0 rfl) ?_
    refine lv_bipush (v := (nI 40)) hx hb d_M_init_79 (by decide) ?_
    refine ea_ist hx hb hK hP hD hS 3 0 rfl rfl (0) rfl (by decide) (by decide) d_M_init_81 (fun sf1 H locs es1 hP hD hS => ?_)
    have hP : va_P D ea_cl [(h0, .inr (1, [.int (nI (ea_w x)), .ref q1, .ref q2, .ref q3, .ref q4, .ref q5])), (q1, .inl (cI, 240, .inl (fun _ => 0))), (q2, .inl (cI, 4, .inl (fun _ => 0))), (q3, .inl (cI, 4, .inl sf1)), (q4, .inl (cI, 4, .inl (fun _ => 0))), (q5, .inl (cI, 32, .inl (fun _ => 0)))] H := hP
    have hD : va_D A [(h0, .inr (1, [.int (nI (ea_w x)), .ref q1, .ref q2, .ref q3, .ref q4, .ref q5])), (q1, .inl (cI, 240, .inl (fun _ => 0))), (q2, .inl (cI, 4, .inl (fun _ => 0))), (q3, .inl (cI, 4, .inl sf1)), (q4, .inl (cI, 4, .inl (fun _ => 0))), (q5, .inl (cI, 32, .inl (fun _ => 0)))] := hD
    have es1 : sf1 = upd (fun _ => 0) 0 ((nI 40)) := es1
    refine lv_aload_n hx hb d_M_init_82 rfl (lv_at hl 1 rfl) ?_
    refine va_get (ci := 1) (C := R_M) (T := F_M) (N := 6) hx hb hts i_M hown hK hP 0 rfl rfl 4 (by decide) (hts _ kf_M_hard) (fun _ h => h) rfl d_M_init_83 ?_
    refine lv_iload_n hx hb d_M_init_86 rfl (lv_at hl 0 rfl) ?_
    refine lv_bipush (v := (nI 60)) hx hb d_M_init_87 (by decide) ?_
    refine ea_ist hx hb hK hP hD hS 4 0 rfl rfl (0) rfl (by decide) (by decide) d_M_init_89 (fun hd1 H locs eh1 hP hD hS => ?_)
    have hP : va_P D ea_cl [(h0, .inr (1, [.int (nI (ea_w x)), .ref q1, .ref q2, .ref q3, .ref q4, .ref q5])), (q1, .inl (cI, 240, .inl (fun _ => 0))), (q2, .inl (cI, 4, .inl (fun _ => 0))), (q3, .inl (cI, 4, .inl sf1)), (q4, .inl (cI, 4, .inl hd1)), (q5, .inl (cI, 32, .inl (fun _ => 0)))] H := hP
    have hD : va_D A [(h0, .inr (1, [.int (nI (ea_w x)), .ref q1, .ref q2, .ref q3, .ref q4, .ref q5])), (q1, .inl (cI, 240, .inl (fun _ => 0))), (q2, .inl (cI, 4, .inl (fun _ => 0))), (q3, .inl (cI, 4, .inl sf1)), (q4, .inl (cI, 4, .inl hd1)), (q5, .inl (cI, 32, .inl (fun _ => 0)))] := hD
    have eh1 : hd1 = upd (fun _ => 0) 0 ((nI 60)) := eh1
    refine lv_iinc (v := (nI 1)) (lv' := [(2, .int ((nI 1))), (0, .ref h0)]) hx hb d_M_init_90 hl (k := 0) rfl (by decide) (by decide) rfl (fun ls hl => ?_)
    refine lv_goto (tgt := 69) hx hb d_M_init_93 (by decide) ?_
    refine lv_iload_n hx hb d_M_init_69 rfl (lv_at hl 0 rfl) ?_
    refine lv_iconst (v := (nI 4)) hx hb d_M_init_70 (by decide) ?_
    refine lv_icmp_ge (tgt := 96) hx hb d_M_init_71 (by decide) (fun c9 => absurd c9 (by decide)) (fun _ => ?_)
    refine lv_aload_n hx hb d_M_init_74 rfl (lv_at hl 1 rfl) ?_
    refine va_get (ci := 1) (C := R_M) (T := F_M) (N := 6) hx hb hts i_M hown hK hP 0 rfl rfl 3 (by decide) (hts _ kf_M_soft) (fun _ h => h) rfl d_M_init_75 ?_
    refine lv_iload_n hx hb d_M_init_78 rfl (lv_at hl 0 rfl) ?_
    refine lv_bipush (v := (nI 40)) hx hb d_M_init_79 (by decide) ?_
    refine ea_ist hx hb hK hP hD hS 3 0 rfl rfl (1) rfl (by decide) (by decide) d_M_init_81 (fun sf2 H locs es2 hP hD hS => ?_)
    have hP : va_P D ea_cl [(h0, .inr (1, [.int (nI (ea_w x)), .ref q1, .ref q2, .ref q3, .ref q4, .ref q5])), (q1, .inl (cI, 240, .inl (fun _ => 0))), (q2, .inl (cI, 4, .inl (fun _ => 0))), (q3, .inl (cI, 4, .inl sf2)), (q4, .inl (cI, 4, .inl hd1)), (q5, .inl (cI, 32, .inl (fun _ => 0)))] H := hP
    have hD : va_D A [(h0, .inr (1, [.int (nI (ea_w x)), .ref q1, .ref q2, .ref q3, .ref q4, .ref q5])), (q1, .inl (cI, 240, .inl (fun _ => 0))), (q2, .inl (cI, 4, .inl (fun _ => 0))), (q3, .inl (cI, 4, .inl sf2)), (q4, .inl (cI, 4, .inl hd1)), (q5, .inl (cI, 32, .inl (fun _ => 0)))] := hD
    have es2 : sf2 = upd sf1 1 ((nI 40)) := es2
    refine lv_aload_n hx hb d_M_init_82 rfl (lv_at hl 1 rfl) ?_
    refine va_get (ci := 1) (C := R_M) (T := F_M) (N := 6) hx hb hts i_M hown hK hP 0 rfl rfl 4 (by decide) (hts _ kf_M_hard) (fun _ h => h) rfl d_M_init_83 ?_
    refine lv_iload_n hx hb d_M_init_86 rfl (lv_at hl 0 rfl) ?_
    refine lv_bipush (v := (nI 60)) hx hb d_M_init_87 (by decide) ?_
    refine ea_ist hx hb hK hP hD hS 4 0 rfl rfl (1) rfl (by decide) (by decide) d_M_init_89 (fun hd2 H locs eh2 hP hD hS => ?_)
    have hP : va_P D ea_cl [(h0, .inr (1, [.int (nI (ea_w x)), .ref q1, .ref q2, .ref q3, .ref q4, .ref q5])), (q1, .inl (cI, 240, .inl (fun _ => 0))), (q2, .inl (cI, 4, .inl (fun _ => 0))), (q3, .inl (cI, 4, .inl sf2)), (q4, .inl (cI, 4, .inl hd2)), (q5, .inl (cI, 32, .inl (fun _ => 0)))] H := hP
    have hD : va_D A [(h0, .inr (1, [.int (nI (ea_w x)), .ref q1, .ref q2, .ref q3, .ref q4, .ref q5])), (q1, .inl (cI, 240, .inl (fun _ => 0))), (q2, .inl (cI, 4, .inl (fun _ => 0))), (q3, .inl (cI, 4, .inl sf2)), (q4, .inl (cI, 4, .inl hd2)), (q5, .inl (cI, 32, .inl (fun _ => 0)))] := hD
    have eh2 : hd2 = upd hd1 1 ((nI 60)) := eh2
    refine lv_iinc (v := (nI 2)) (lv' := [(2, .int ((nI 2))), (0, .ref h0)]) hx hb d_M_init_90 hl (k := 0) rfl (by decide) (by decide) rfl (fun ls hl => ?_)
    refine lv_goto (tgt := 69) hx hb d_M_init_93 (by decide) ?_
    refine lv_iload_n hx hb d_M_init_69 rfl (lv_at hl 0 rfl) ?_
    refine lv_iconst (v := (nI 4)) hx hb d_M_init_70 (by decide) ?_
    refine lv_icmp_ge (tgt := 96) hx hb d_M_init_71 (by decide) (fun c9 => absurd c9 (by decide)) (fun _ => ?_)
    refine lv_aload_n hx hb d_M_init_74 rfl (lv_at hl 1 rfl) ?_
    refine va_get (ci := 1) (C := R_M) (T := F_M) (N := 6) hx hb hts i_M hown hK hP 0 rfl rfl 3 (by decide) (hts _ kf_M_soft) (fun _ h => h) rfl d_M_init_75 ?_
    refine lv_iload_n hx hb d_M_init_78 rfl (lv_at hl 0 rfl) ?_
    refine lv_bipush (v := (nI 40)) hx hb d_M_init_79 (by decide) ?_
    refine ea_ist hx hb hK hP hD hS 3 0 rfl rfl (2) rfl (by decide) (by decide) d_M_init_81 (fun sf3 H locs es3 hP hD hS => ?_)
    have hP : va_P D ea_cl [(h0, .inr (1, [.int (nI (ea_w x)), .ref q1, .ref q2, .ref q3, .ref q4, .ref q5])), (q1, .inl (cI, 240, .inl (fun _ => 0))), (q2, .inl (cI, 4, .inl (fun _ => 0))), (q3, .inl (cI, 4, .inl sf3)), (q4, .inl (cI, 4, .inl hd2)), (q5, .inl (cI, 32, .inl (fun _ => 0)))] H := hP
    have hD : va_D A [(h0, .inr (1, [.int (nI (ea_w x)), .ref q1, .ref q2, .ref q3, .ref q4, .ref q5])), (q1, .inl (cI, 240, .inl (fun _ => 0))), (q2, .inl (cI, 4, .inl (fun _ => 0))), (q3, .inl (cI, 4, .inl sf3)), (q4, .inl (cI, 4, .inl hd2)), (q5, .inl (cI, 32, .inl (fun _ => 0)))] := hD
    have es3 : sf3 = upd sf2 2 ((nI 40)) := es3
    refine lv_aload_n hx hb d_M_init_82 rfl (lv_at hl 1 rfl) ?_
    refine va_get (ci := 1) (C := R_M) (T := F_M) (N := 6) hx hb hts i_M hown hK hP 0 rfl rfl 4 (by decide) (hts _ kf_M_hard) (fun _ h => h) rfl d_M_init_83 ?_
    refine lv_iload_n hx hb d_M_init_86 rfl (lv_at hl 0 rfl) ?_
    refine lv_bipush (v := (nI 60)) hx hb d_M_init_87 (by decide) ?_
    refine ea_ist hx hb hK hP hD hS 4 0 rfl rfl (2) rfl (by decide) (by decide) d_M_init_89 (fun hd3 H locs eh3 hP hD hS => ?_)
    have hP : va_P D ea_cl [(h0, .inr (1, [.int (nI (ea_w x)), .ref q1, .ref q2, .ref q3, .ref q4, .ref q5])), (q1, .inl (cI, 240, .inl (fun _ => 0))), (q2, .inl (cI, 4, .inl (fun _ => 0))), (q3, .inl (cI, 4, .inl sf3)), (q4, .inl (cI, 4, .inl hd3)), (q5, .inl (cI, 32, .inl (fun _ => 0)))] H := hP
    have hD : va_D A [(h0, .inr (1, [.int (nI (ea_w x)), .ref q1, .ref q2, .ref q3, .ref q4, .ref q5])), (q1, .inl (cI, 240, .inl (fun _ => 0))), (q2, .inl (cI, 4, .inl (fun _ => 0))), (q3, .inl (cI, 4, .inl sf3)), (q4, .inl (cI, 4, .inl hd3)), (q5, .inl (cI, 32, .inl (fun _ => 0)))] := hD
    have eh3 : hd3 = upd hd2 2 ((nI 60)) := eh3
    refine lv_iinc (v := (nI 3)) (lv' := [(2, .int ((nI 3))), (0, .ref h0)]) hx hb d_M_init_90 hl (k := 0) rfl (by decide) (by decide) rfl (fun ls hl => ?_)
    refine lv_goto (tgt := 69) hx hb d_M_init_93 (by decide) ?_
    refine lv_iload_n hx hb d_M_init_69 rfl (lv_at hl 0 rfl) ?_
    refine lv_iconst (v := (nI 4)) hx hb d_M_init_70 (by decide) ?_
    refine lv_icmp_ge (tgt := 96) hx hb d_M_init_71 (by decide) (fun c9 => absurd c9 (by decide)) (fun _ => ?_)
    refine lv_aload_n hx hb d_M_init_74 rfl (lv_at hl 1 rfl) ?_
    refine va_get (ci := 1) (C := R_M) (T := F_M) (N := 6) hx hb hts i_M hown hK hP 0 rfl rfl 3 (by decide) (hts _ kf_M_soft) (fun _ h => h) rfl d_M_init_75 ?_
    refine lv_iload_n hx hb d_M_init_78 rfl (lv_at hl 0 rfl) ?_
    refine lv_bipush (v := (nI 40)) hx hb d_M_init_79 (by decide) ?_
    refine ea_ist hx hb hK hP hD hS 3 0 rfl rfl (3) rfl (by decide) (by decide) d_M_init_81 (fun sf4 H locs es4 hP hD hS => ?_)
    have hP : va_P D ea_cl [(h0, .inr (1, [.int (nI (ea_w x)), .ref q1, .ref q2, .ref q3, .ref q4, .ref q5])), (q1, .inl (cI, 240, .inl (fun _ => 0))), (q2, .inl (cI, 4, .inl (fun _ => 0))), (q3, .inl (cI, 4, .inl sf4)), (q4, .inl (cI, 4, .inl hd3)), (q5, .inl (cI, 32, .inl (fun _ => 0)))] H := hP
    have hD : va_D A [(h0, .inr (1, [.int (nI (ea_w x)), .ref q1, .ref q2, .ref q3, .ref q4, .ref q5])), (q1, .inl (cI, 240, .inl (fun _ => 0))), (q2, .inl (cI, 4, .inl (fun _ => 0))), (q3, .inl (cI, 4, .inl sf4)), (q4, .inl (cI, 4, .inl hd3)), (q5, .inl (cI, 32, .inl (fun _ => 0)))] := hD
    have es4 : sf4 = upd sf3 3 ((nI 40)) := es4
    refine lv_aload_n hx hb d_M_init_82 rfl (lv_at hl 1 rfl) ?_
    refine va_get (ci := 1) (C := R_M) (T := F_M) (N := 6) hx hb hts i_M hown hK hP 0 rfl rfl 4 (by decide) (hts _ kf_M_hard) (fun _ h => h) rfl d_M_init_83 ?_
    refine lv_iload_n hx hb d_M_init_86 rfl (lv_at hl 0 rfl) ?_
    refine lv_bipush (v := (nI 60)) hx hb d_M_init_87 (by decide) ?_
    refine ea_ist hx hb hK hP hD hS 4 0 rfl rfl (3) rfl (by decide) (by decide) d_M_init_89 (fun hd4 H locs eh4 hP hD hS => ?_)
    have hP : va_P D ea_cl [(h0, .inr (1, [.int (nI (ea_w x)), .ref q1, .ref q2, .ref q3, .ref q4, .ref q5])), (q1, .inl (cI, 240, .inl (fun _ => 0))), (q2, .inl (cI, 4, .inl (fun _ => 0))), (q3, .inl (cI, 4, .inl sf4)), (q4, .inl (cI, 4, .inl hd4)), (q5, .inl (cI, 32, .inl (fun _ => 0)))] H := hP
    have hD : va_D A [(h0, .inr (1, [.int (nI (ea_w x)), .ref q1, .ref q2, .ref q3, .ref q4, .ref q5])), (q1, .inl (cI, 240, .inl (fun _ => 0))), (q2, .inl (cI, 4, .inl (fun _ => 0))), (q3, .inl (cI, 4, .inl sf4)), (q4, .inl (cI, 4, .inl hd4)), (q5, .inl (cI, 32, .inl (fun _ => 0)))] := hD
    have eh4 : hd4 = upd hd3 3 ((nI 60)) := eh4
    refine lv_iinc (v := (nI 4)) (lv' := [(2, .int ((nI 4))), (0, .ref h0)]) hx hb d_M_init_90 hl (k := 0) rfl (by decide) (by decide) rfl (fun ls hl => ?_)
    refine lv_goto (tgt := 69) hx hb d_M_init_93 (by decide) ?_
    refine lv_iload_n hx hb d_M_init_69 rfl (lv_at hl 0 rfl) ?_
    refine lv_iconst (v := (nI 4)) hx hb d_M_init_70 (by decide) ?_
    refine lv_icmp_ge (tgt := 96) hx hb d_M_init_71 (by decide) (fun _ => ?_) (fun c9 => absurd (by decide) c9)
    have hkey : ∀ i, i < 6 → ∃ e, ([(h0, .inr (1, [.int (nI (ea_w x)), .ref q1, .ref q2, .ref q3, .ref q4, .ref q5])), (q1, .inl (cI, 240, .inl (fun _ => 0))), (q2, .inl (cI, 4, .inl (fun _ => 0))), (q3, .inl (cI, 4, .inl sf4)), (q4, .inl (cI, 4, .inl hd4)), (q5, .inl (cI, 32, .inl (fun _ => 0)))] : va_W)[i]? = some ((fun i => [h0, q1, q2, q3, q4, q5].getD i 0) i, e) := by
      intro i hi
      rcases (show i = 0 ∨ i = 1 ∨ i = 2 ∨ i = 3 ∨ i = 4 ∨ i = 5 by omega) with rfl | rfl | rfl | rfl | rfl | rfl <;> exact ⟨_, rfl⟩
    have hap : ea_ap 6 (fun i => [h0, q1, q2, q3, q4, q5].getD i 0) := fun i j hi hj he => by
      obtain ⟨e1, k1⟩ := hkey i hi
      obtain ⟨e2, k2⟩ := hkey j hj
      exact hD.1 i j _ _ k1 k2 he
    have hfr : ∀ i, 1 ≤ i → i < 6 → sz ≤ (fun i => [h0, q1, q2, q3, q4, q5].getD i 0) i := fun i h1 h2 => by
      obtain ⟨e1, k1⟩ := hkey i h2
      have h3 := hD.2 i _ k1
      rw [← hAe] at h3
      rcases h3 with h3 | h3
      · exact absurd (hap i 0 h2 (by omega) h3) (by omega)
      · exact h3
    have hfin : ea_QJ h0 sz ((fun i => [h0, q1, q2, q3, q4, q5].getD i 0), (fun _ => 0, fun _ => 0, sf4, hd4, fun _ => 0)) := ⟨rfl, hap, hfr, ea_RM0 (ea_up4 es1 es2 es3 es4) (ea_up4 eh1 eh2 eh3 eh4)⟩
    have hPf : ea_PJ D cI (nI (ea_w x)) ((fun i => [h0, q1, q2, q3, q4, q5].getD i 0), (fun _ => 0, fun _ => 0, sf4, hd4, fun _ => 0)) H := hP
    exact W.vret hx hb hr (fun t ht hW => ⟨⟨_, rfl, hfin, by show ea_PJ D cI (nI (ea_w x)) _ t.heap; rw [ht]; exact hPf⟩, hS.F ht⟩) hS.2.2 d_M_init_96 hlocks
  by_cases hx4 : x < 4
  · refine lv_aload_n hx hb d_M_init_42 rfl (lv_at hl 0 rfl) ?_
    refine lv_iload_n hx hb d_M_init_43 rfl (lv_at hl 1 rfl) ?_
    refine lv_iconst (v := (nI 4)) hx hb d_M_init_44 (by decide) ?_
    refine lv_icmp_ge (tgt := 52) hx hb d_M_init_45 (by decide) (fun c9 => absurd c9 (fun h => absurd hx4 (Int32.not_lt.mpr h))) (fun _ => ?_)
    refine lv_iconst (v := (nI 4)) hx hb d_M_init_48 (by decide) ?_
    refine ea_ti (y := (nI (ea_w x))) (by rw [show ea_w x = 4 from if_pos hx4]) ?_
    refine lv_goto (tgt := 64) hx hb d_M_init_49 (by decide) ?_
    refine va_put (D := D) (ci := 1) (v := .int ((nI (ea_w x)))) (ty := .int) (C := R_M) (T := F_M) (N := 6) hx hb hts i_M t_M t_M_ok n_M hown hK hP hD hS 0 rfl rfl 0 (by decide) (hts _ kf_M_window) (fun _ h9 => h9) rfl (by decide +kernel) rfl rfl (Nat.le_of_ble_eq_true rfl) d_M_init_64 (fun H locs hP hD hS => ?_)
    have hP : va_P D ea_cl [(h0, .inr (1, [.int ((nI (ea_w x))), .ref q1, .ref q2, .ref q3, .ref q4, .ref q5])), (q1, .inl (cI, 240, .inl (fun _ => 0))), (q2, .inl (cI, 4, .inl (fun _ => 0))), (q3, .inl (cI, 4, .inl (fun _ => 0))), (q4, .inl (cI, 4, .inl (fun _ => 0))), (q5, .inl (cI, 32, .inl (fun _ => 0)))] H := hP
    have hD : va_D A [(h0, .inr (1, [.int ((nI (ea_w x))), .ref q1, .ref q2, .ref q3, .ref q4, .ref q5])), (q1, .inl (cI, 240, .inl (fun _ => 0))), (q2, .inl (cI, 4, .inl (fun _ => 0))), (q3, .inl (cI, 4, .inl (fun _ => 0))), (q4, .inl (cI, 4, .inl (fun _ => 0))), (q5, .inl (cI, 32, .inl (fun _ => 0)))] := hD
    exact tail _ _ ls hP hD hS (lv_sub hl [0] rfl)
  · by_cases hx64 : 64 < x
    · refine lv_aload_n hx hb d_M_init_42 rfl (lv_at hl 0 rfl) ?_
      refine lv_iload_n hx hb d_M_init_43 rfl (lv_at hl 1 rfl) ?_
      refine lv_iconst (v := (nI 4)) hx hb d_M_init_44 (by decide) ?_
      refine lv_icmp_ge (tgt := 52) hx hb d_M_init_45 (by decide) (fun _ => ?_) (fun c9 => absurd (Int32.not_lt.mp hx4) c9)
      refine lv_iload_n hx hb d_M_init_52 rfl (lv_at hl 1 rfl) ?_
      refine lv_bipush (v := (nI 64)) hx hb d_M_init_53 (by decide) ?_
      refine lv_icmp_le (tgt := 63) hx hb d_M_init_55 (by decide) (fun c9 => absurd c9 (Int32.not_le.mpr hx64)) (fun _ => ?_)
      refine lv_bipush (v := (nI 64)) hx hb d_M_init_58 (by decide) ?_
      refine ea_ti (y := (nI (ea_w x))) (by rw [show ea_w x = 64 by unfold ea_w; rw [if_neg hx4, if_pos hx64]]) ?_
      refine lv_goto (tgt := 64) hx hb d_M_init_60 (by decide) ?_
      refine va_put (D := D) (ci := 1) (v := .int ((nI (ea_w x)))) (ty := .int) (C := R_M) (T := F_M) (N := 6) hx hb hts i_M t_M t_M_ok n_M hown hK hP hD hS 0 rfl rfl 0 (by decide) (hts _ kf_M_window) (fun _ h9 => h9) rfl (by decide +kernel) rfl rfl (Nat.le_of_ble_eq_true rfl) d_M_init_64 (fun H locs hP hD hS => ?_)
      have hP : va_P D ea_cl [(h0, .inr (1, [.int ((nI (ea_w x))), .ref q1, .ref q2, .ref q3, .ref q4, .ref q5])), (q1, .inl (cI, 240, .inl (fun _ => 0))), (q2, .inl (cI, 4, .inl (fun _ => 0))), (q3, .inl (cI, 4, .inl (fun _ => 0))), (q4, .inl (cI, 4, .inl (fun _ => 0))), (q5, .inl (cI, 32, .inl (fun _ => 0)))] H := hP
      have hD : va_D A [(h0, .inr (1, [.int ((nI (ea_w x))), .ref q1, .ref q2, .ref q3, .ref q4, .ref q5])), (q1, .inl (cI, 240, .inl (fun _ => 0))), (q2, .inl (cI, 4, .inl (fun _ => 0))), (q3, .inl (cI, 4, .inl (fun _ => 0))), (q4, .inl (cI, 4, .inl (fun _ => 0))), (q5, .inl (cI, 32, .inl (fun _ => 0)))] := hD
      exact tail _ _ ls hP hD hS (lv_sub hl [0] rfl)
    · obtain ⟨n, hn4, hn64, hxn, hwn⟩ := ea_wB hx4 hx64
      refine lv_aload_n hx hb d_M_init_42 rfl (lv_at hl 0 rfl) ?_
      refine lv_iload_n hx hb d_M_init_43 rfl (lv_at hl 1 rfl) ?_
      refine lv_iconst (v := (nI 4)) hx hb d_M_init_44 (by decide) ?_
      refine lv_icmp_ge (tgt := 52) hx hb d_M_init_45 (by decide) (fun _ => ?_) (fun c9 => absurd (Int32.not_lt.mp hx4) c9)
      refine lv_iload_n hx hb d_M_init_52 rfl (lv_at hl 1 rfl) ?_
      refine lv_bipush (v := (nI 64)) hx hb d_M_init_53 (by decide) ?_
      refine lv_icmp_le (tgt := 63) hx hb d_M_init_55 (by decide) (fun _ => ?_) (fun c9 => absurd (Int32.not_lt.mp hx64) c9)
      refine lv_iload_n hx hb d_M_init_63 rfl (lv_at hl 1 rfl) ?_
      refine ea_ti (y := (nI (ea_w x))) (by rw [hwn]; exact hxn) ?_
      refine va_put (D := D) (ci := 1) (v := .int ((nI (ea_w x)))) (ty := .int) (C := R_M) (T := F_M) (N := 6) hx hb hts i_M t_M t_M_ok n_M hown hK hP hD hS 0 rfl rfl 0 (by decide) (hts _ kf_M_window) (fun _ h9 => h9) rfl (by decide +kernel) rfl rfl (Nat.le_of_ble_eq_true rfl) d_M_init_64 (fun H locs hP hD hS => ?_)
      have hP : va_P D ea_cl [(h0, .inr (1, [.int ((nI (ea_w x))), .ref q1, .ref q2, .ref q3, .ref q4, .ref q5])), (q1, .inl (cI, 240, .inl (fun _ => 0))), (q2, .inl (cI, 4, .inl (fun _ => 0))), (q3, .inl (cI, 4, .inl (fun _ => 0))), (q4, .inl (cI, 4, .inl (fun _ => 0))), (q5, .inl (cI, 32, .inl (fun _ => 0)))] H := hP
      have hD : va_D A [(h0, .inr (1, [.int ((nI (ea_w x))), .ref q1, .ref q2, .ref q3, .ref q4, .ref q5])), (q1, .inl (cI, 240, .inl (fun _ => 0))), (q2, .inl (cI, 4, .inl (fun _ => 0))), (q3, .inl (cI, 4, .inl (fun _ => 0))), (q4, .inl (cI, 4, .inl (fun _ => 0))), (q5, .inl (cI, 32, .inl (fun _ => 0)))] := hD
      exact tail _ _ ls hP hD hS (lv_sub hl [0] rfl)
end
section
def lw_P (b : Addr) (xs : List Int32) (args : Array Value) (s : State) : Prop := args = #[.ref b] ∧ s.IntsAt b xs ∧ xs.length ≤ 2561 ∧ (Jvm.Cond.and given_1 narrow_1).before args s = true
def lw_Q (_ : Array Value) (s : State) (o : Outcome) (t : State) : Prop := o = .returned (some (.int 1)) ∧ Framed s o t [] 15 588
def lw_Z (below : List Frame) (a : Array Value) (s : State) : State → Prop := fun t => ∃ o, t.status = .running ∧ Ended t below o ∧ lw_Q a s o t
/-- the law's own end, with 1 on the stack, nothing written that was there before, its room as the claim has it -/
theorem lw_ret {p : Program} {l : Launch} {e : Env} {s : State} {m : MethodId} {below : List Frame} {meth : Method} {c : Code} {b : Nat} (hx : p.tables.exec = Jvm.exec) (hb : c.code = code) (hr : meth.sig.returnType = ret) (hlocks : meth.locks = false) {pc : Nat} {H : Heap} {ls : Array Slot} (hdg : decode code pc = .ok (.ireturn, 1)) : W p l e room_1 s m #[Value.ref b] below meth c H [] 15 588 (lw_Z below #[Value.ref b] s) (F0 m pc ls [.int 1]) := by
  intro T hT X
  obtain ⟨fs, hret, hrun, hended, hW, hframe⟩ := X.leave (v := some (.int 1)) (hlocks := hlocks) (fun h => by rw [hr] at h; cases h)
  have hmeth' : T.vm.method? m = some meth := X.method'
  refine ⟨T.setFrames fs, ?_, .returned (some (.int 1)), hrun, hended, rfl, ⟨_, rfl⟩, hW, hframe⟩
  jvm_step X.here [X.here.top, hx, hb, hdg, hmeth', hr, ret, narrow_b1]
  (try refine ⟨rfl, ?_⟩); (try refine ⟨rfl, ?_⟩)
  first | (intro acts; rw [hret _ acts rfl rfl rfl]) | rw [hret _ _ rfl rfl rfl]
  exact Steps.refl _
/-- what holds at the law's entry: the machine, the code, the tables' words (any of lw_tbl by 'hts w (by decide +kernel)'), the script of L ints xs at the cell b, what the Statement gives of the start (any of its parts by flat_of_before) -/
def lw_At (p : Program) (s : State) (m : MethodId) (meth : Method) (c : Code) (b L : Nat) (xs : Nat → Int32) : Prop :=
  p.tables.exec = Jvm.exec ∧ c.code = code ∧ meth.sig.returnType = ret ∧ c.maxLocals = 4 ∧ s.vm.findClass R_law = some m.cls ∧ (∀ w ∈ lw_tbl, w.before #[Value.ref b] s = true) ∧ va_X b L xs s s.heap ∧ b < s.heap.size ∧ meth.locks = false ∧ (Jvm.Cond.and given_1 narrow_1).before #[Value.ref b] s = true
end
section
/-! ===== what the law's walk needs: the script, a static call, the two worlds beside each other ===== -/
section EAL
variable {p : Program} {l : Launch} {e : Env} {R : Room} {s : State} {m : MethodId} {args : Array Value} {below : List Frame} {meth : Method} {c : Code} {H : Heap} {locs : List Loc} {cells slots : Nat} {Q : State → Prop}
variable {cc : ByteArray} {pc : Nat} {ls : Array Slot} {rest st : List Value} {A : Nat → Prop} {H0 : Heap}
theorem ea_sld (hexec : p.tables.exec = Jvm.exec) (hb : c.code = cc) {b L : Nat} {xs : Nat → Int32} (hX : va_X b L xs s H0) (hbl : b < H0.size) (hbA : ¬ A b) (hS : va_S A H0 H locs) {i : Int32} (j : Nat) (hi : i = nI j) (hj : j < L) (hL : L < 2 ^ 31) (hdg : decode cc pc = .ok (.iaload, 1))
    (kk : W p l e R s m args below meth c H locs cells slots Q (F0 m (pc + 1) ls (.int (xs j) :: rest))) : W p l e R s m args below meth c H locs cells slots Q (F0 m pc ls (.int i :: .ref b :: rest)) := by
  subst hi
  refine va_sld hexec hb hX hbl hbA hS (vp_in_nI hj hL) hdg ?_
  rw [nI_clamp (Nat.lt_trans hj hL)]
  exact kk
theorem ea_callSB {own : String} {nL index maxL j : Nat} {y : MethodName} {bytes : ByteArray} {ret : Option FieldType} {As : List Value} {r : Int32} {B : State → Prop}
    (S : CallFix p m c cc nL s args ea_tb own)
    (hM : Met l y (.code y bytes maxL ret :: ea_tb) (ea_rm j) (va_Pc As B) (QcRead r) 0 0 (fun _ => False))
    (hw : Cond.methodLink own index y ∈ ea_tb ∧ Cond.static y ∈ ea_tb ∧ Cond.initialized y.cls ∈ ea_tb ∧ Cond.code y bytes maxL ret ∈ ea_tb)
    (hd : y.cls ≠ "java/lang/invoke/MethodHandle" ∧ y.cls ≠ "java/lang/invoke/VarHandle" ∧ (parseMethodDescriptor y.desc).map (fun d => d.parameters.length) = some As.length)
    (hm : maxL ≤ 8) (hR : j + 1 ≤ R.frames ∧ 27 * (j + 1) ≤ R.locals) (hl : ls.size = nL) (hst : st = As.reverse ++ rest) (hW : (rest.map fun v => v.category).sum ≤ 8) (hdg : decode cc pc = .ok (.invokestatic index, 3)) (hf : cells ≤ R.cells ∧ slots ≤ R.slots)
    (hbl : ∀ (U : State) (g : JFrame) (mk : MethodId) (a : Array Value), B U → B (U.calling g mk a)) (hpre : ∀ U : State, U.heap = H → s.WarmedH U.vm → B U)
    (kk : W p l e R s m args below meth c H locs cells slots Q (F0 m (pc + 3) ls (.int r :: rest))) : W p l e R s m args below meth c H locs cells slots Q (F0 m pc ls st) := by
  obtain ⟨w1, w2, w4, w5⟩ := hw
  have hts := S.2.2.2.2
  refine W.callR (W.runS (As := As) (rest := rest) (n := As.length) S hM ⟨callB_of _ hts (ea_good w5) rfl rfl rfl (hts _ w4) (hts _ w1) hd ⟨hR.1, ?_⟩, hts _ w2⟩ ⟨?_, ?_⟩ rfl rfl hl hst (lv_room hW) hdg hf) kk
  · show 8 + (maxL + 11) + 27 * j ≤ R.locals
    have := hR.2
    omega
  · exact fun a U g mk q => ⟨q.1, hbl U g mk a q.2⟩
  · exact fun U hU hW => ⟨rfl, hpre U hU hW⟩
end EAL
set_option maxHeartbeats 4000000 in
set_option maxRecDepth 100000 in
theorem c_L_cell (l : Launch) (b L : Nat) (xs : Nat → Int32) (hL : L ≤ 2561) : Met l y_L_cell (.code y_L_cell b_L_cell 2 (some .int) :: ea_tb) (ea_rm 0) (va_Pc [.ref b, .int 0] (fun U => va_X b L xs U U.heap)) (QcRead (if 0 < L then xs 0 else 0)) 0 0 (fun _ => False) := by
  refine ea_start (by decide) (Nat.le_of_ble_eq_true rfl) ?_
  intro p e s m below meth c ls hx hb hr hlocks hml hown hts hnm hX hl
  have hl : lv_has ls 2 [(0, .ref b), (1, .int 0)] := hl
  have hbl : b < s.heap.size := by
    obtain ⟨scr, h1, -⟩ := hX
    exact (Array.getElem?_eq_some_iff.mp h1).1
  have hS : va_S (fun _ => False) s.heap s.heap [] := va_S.rf
  refine lv_iload_n hx hb d_L_cell_0 rfl (lv_at hl 1 rfl) ?_
  refine lv_aload_n hx hb d_L_cell_1 rfl (lv_at hl 0 rfl) ?_
  refine va_slen hx hb hX hbl (fun h => h) hS d_L_cell_2 ?_
  refine lv_icmp_ge (tgt := 12) hx hb d_L_cell_3 (by decide) (fun c1 => ?_) (fun c1 => ?_)
  · have c1 := (nI_leI (a := L) (b := 0) (by omega) (by omega)).mp c1
    refine lv_iconst (v := 0) hx hb d_L_cell_12 (by decide) ?_
    exact ea_retI hx hb hr hlocks (if_neg (by omega)).symm d_L_cell_13
  · have c1 := mt (nI_leI (a := L) (b := 0) (by omega) (by omega)).mpr c1
    refine lv_aload_n hx hb d_L_cell_6 rfl (lv_at hl 0 rfl) ?_
    refine lv_iload_n hx hb d_L_cell_7 rfl (lv_at hl 1 rfl) ?_
    refine ea_sld hx hb hX hbl (fun h => h) hS 0 rfl (by omega) (by omega) d_L_cell_8 ?_
    refine lv_goto (tgt := 13) hx hb d_L_cell_9 (by decide) ?_
    exact ea_retI hx hb hr hlocks (if_pos (by omega)).symm d_L_cell_13
/-! the two worlds -/
theorem ea_keepM {D : va_G} {qx qm : Nat → Nat} {cI : ClassId} {wi : Int32} {v : ea_MS} {H H1 : Heap} (hP : va_P D ea_cl (ea_wM qm cI wi v) H) (hq : ea_ap 6 qm) (hdis : ∀ i j, i < 9 → j < 6 → qx i ≠ qm j) (hk : ∀ a : Nat, a < H.size → ¬ ea_AX 9 qx a → H1[a]? = H[a]?) : va_P D ea_cl (ea_wM qm cI wi v) H1 :=
  hP.kept (fun k x hx => hk x.1 (hP k x hx).lt (fun ⟨i, hi, e⟩ => by
    obtain ⟨j, hj, e2⟩ := (ea_DM (cI := cI) (wi := wi) (v := v) hq).2 k x hx
    exact hdis i j hi hj (e.symm.trans e2)))
theorem ea_keepX {D : va_G} {qx qm : Nat → Nat} {cI cJ : ClassId} {wi : Int32} {mk : Int64} {u : ea_XS} {H H1 : Heap} (hP : va_P D ea_cl (ea_wX qx cI cJ wi mk u) H) (hq : ea_ap 9 qx) (hdis : ∀ i j, i < 9 → j < 6 → qx i ≠ qm j) (hk : ∀ a : Nat, a < H.size → ¬ ea_AX 6 qm a → H1[a]? = H[a]?) : va_P D ea_cl (ea_wX qx cI cJ wi mk u) H1 :=
  hP.kept (fun k x hx => hk x.1 (hP k x hx).lt (fun ⟨j, hj, e⟩ => by
    obtain ⟨i, hi, e2⟩ := (ea_DX (cI := cI) (cJ := cJ) (wi := wi) (mk := mk) (u := u) hq).2 k x hx
    exact hdis i j hi hj (e2.symm.trans e)))
/-! the abstract value stays well formed -/
theorem ea_ok_rec {w : Nat} {σ : ea_S} {x y z : Int32} (hw : w ≤ 64) (h : ea_ok σ) : ea_ok (sp_receive w σ x y z).2 := by
  unfold sp_receive
  by_cases h1 : ea_isL x
  · rw [if_pos h1]
    by_cases h2 : ea_isW y
    · rw [if_pos h2]
      obtain ⟨ln, hln, -, e⟩ := ea_isL_n h1
      rw [e]
      exact ea_ok_ju hw h hln
    · rw [if_neg h2]
      exact h
  · rw [if_neg h1]
    exact h
theorem ea_ok_bur {w : Nat} {σ : ea_S} {x y a b : Int32} (hw : w ≤ 64) (h : ea_ok σ) : ea_ok (sp_burst w σ x y a b).2 := by
  unfold sp_burst
  by_cases h1 : ea_isL x
  · rw [if_pos h1]
    obtain ⟨ln, hln, -, e⟩ := ea_isL_n h1
    rw [e]
    by_cases h2 : ea_isW y
    · rw [if_pos h2]
      by_cases h3 : -64 ≤ a ∧ a ≤ 64
      · rw [if_pos h3]
        by_cases h4 : 1 ≤ b ∧ b ≤ 40
        · rw [if_pos h4]
          exact ea_ok_bu hw h hln _
        · rw [if_neg h4]
          exact h
      · rw [if_neg h3]
        exact h
    · rw [if_neg h2]
      exact h
  · rw [if_neg h1]
    exact h
theorem ea_ok_rek {σ : ea_S} {x : Int32} (h : ea_ok σ) : ea_ok (sp_rekey σ x).2 := by
  unfold sp_rekey
  by_cases h1 : ea_isL x
  · rw [if_pos h1]
    exact ea_ok_rekey h
  · rw [if_neg h1]
    exact h
theorem ea_ok_lims {σ : ea_S} {x a b : Int32} (h : ea_ok σ) : ea_ok (sp_limits σ x a b).2 := by
  unfold sp_limits
  by_cases h1 : ea_isL x
  · rw [if_pos h1]
    by_cases h2 : 1 ≤ b ∧ b ≤ 60
    · rw [if_pos h2]
      by_cases h3 : 0 ≤ a ∧ a ≤ b
      · rw [if_pos h3]
        obtain ⟨bn, hbn, rfl⟩ := nI_of2 (x := b) (M := 60) (n := 60) (by decide) (fun q => absurd (Int32.lt_of_le_of_lt h2.1 q) (by decide)) h2.2
        obtain ⟨an, han, rfl⟩ := nI_of (x := a) (Int32.not_lt.mpr h3.1)
        have hb1 : 1 ≤ bn := (nI_leI (a := 1) (by omega) (by omega)).mp h2.1
        have hab : an ≤ bn := (nI_leI (by omega) (by omega)).mp h3.2
        rw [show ea_n (nI bn) = bn from nI_clamp (by omega), show ea_n (nI an) = an from nI_clamp (by omega)]
        exact ea_ok_lim h (by omega) ⟨hb1, hbn⟩
      · rw [if_neg h3]
        exact h
    · rw [if_neg h2]
      exact h
  · rw [if_neg h1]
    exact h
/-! the law's own state: what never changes, and what a round finds -/
def ea_Fix (s : State) (D : va_G) (cI cJ : ClassId) (w : Nat) (mk : Int64) (qx qm : Nat → Nat) : Prop :=
  ea_cx w mk ∧ ea_ap 9 qx ∧ ea_ap 6 qm ∧ (∀ i j, i < 9 → j < 6 → qx i ≠ qm j) ∧ (∀ i, i < 9 → s.heap.size ≤ qx i) ∧ (∀ i, i < 6 → s.heap.size ≤ qm i) ∧ va_K D ea_cl (ea_ty cI cJ) s
def ea_St (s : State) (D : va_G) (cI cJ : ClassId) (w : Nat) (mk : Int64) (qx qm : Nat → Nat) (σ : ea_S) (u : ea_XS) (v : ea_MS) (H : Heap) (locs : List Loc) : Prop :=
  ea_ok σ ∧ ea_RX w σ u ∧ ea_RM σ v ∧ va_P D ea_cl (ea_wX qx cI cJ (nI w) mk u) H ∧ va_P D ea_cl (ea_wM qm cI (nI w) v) H ∧ va_S (fun q : Nat => s.heap.size ≤ q) s.heap H locs
end
section
set_option maxHeartbeats 1000000 in
set_option maxRecDepth 100000 in
theorem law_c0 {p : Program} {l : Launch} {e : Env} {s : State} {m : MethodId} {below : List Frame} {meth : Method} {c : Code} {D : va_G} {cI cJ : ClassId} {w : Nat} {mk : Int64} {qx qm : Nat → Nat} {b L : Nat} {xs : Nat → Int32} (hL : L ≤ 2561) (C0 : lw_At p s m meth c b L xs) (hC : ea_Fix s D cI cJ w mk qx qm) {i : Nat} (hi : i + 5 ≤ L) (hnext : ∀ (σ : ea_S) (u : ea_XS) (v : ea_MS) (H : Heap) (locs : List Loc) (ls : Array Slot), ea_St s D cI cJ w mk qx qm σ u v H locs → lv_has ls 4 [(0, .ref b), (1, .ref (qx 0)), (2, .ref (qm 0)), (3, .int (nI i))] → W p l e room_1 s m #[Value.ref b] below meth c H locs 15 588 (lw_Z below #[Value.ref b] s) (F0 m 551 ls [])) (σ : ea_S) (u : ea_XS) (v : ea_MS) (H : Heap) (locs : List Loc) (ls : Array Slot) (hSt : ea_St s D cI cJ w mk qx qm σ u v H locs) (hl : lv_has ls 4 [(0, .ref b), (1, .ref (qx 0)), (2, .ref (qm 0)), (3, .int (nI i))]) : W p l e room_1 s m #[Value.ref b] below meth c H locs 15 588 (lw_Z below #[Value.ref b] s) (F0 m 116 ls []) := by
  obtain ⟨hx, hb, hr, hml, hown, hts0, hX, hbl, hlocks, hgv⟩ := C0
  have hts := ea_hts hts0
  have hbA : ¬ (fun q : Nat => s.heap.size ≤ q) b := Nat.not_le.mpr hbl
  obtain ⟨hcx, hqx, hqm, hdis, hax, ham, hK⟩ := hC
  have hw : 4 ≤ w ∧ w ≤ 64 := ⟨hcx.1, hcx.2.1⟩
  obtain ⟨hok, hRX, hRM, hPX, hPM, hS⟩ := hSt
  refine lv_aload_n hx hb d_L_law_116 rfl (lv_at hl 1 rfl) ?_
  refine ea_callR (As := []) (rest := []) (r := (nI w)) ⟨hx, hb, hml, hown, hts⟩ hK hPX rfl rfl (c_X_window l D qx cI cJ w mk u) ⟨kl_L_21, kn_X_window, ks_X_window, ki_X, kc_X_window⟩ kd_X_window (by decide) ⟨Nat.le_of_ble_eq_true rfl, Nat.le_of_ble_eq_true rfl⟩ hl.1 rfl (Nat.le_of_ble_eq_true rfl) d_L_law_117 ⟨Nat.le_of_ble_eq_true rfl, Nat.le_of_ble_eq_true rfl⟩ ?_
  refine lv_aload_n hx hb d_L_law_120 rfl (lv_at hl 2 rfl) ?_
  refine ea_callR (As := []) (rest := [.int ((nI w))]) (r := (nI w)) ⟨hx, hb, hml, hown, hts⟩ hK hPM rfl rfl (c_M_window l D qm cI cJ w v) ⟨kl_L_25, kn_M_window, ks_M_window, ki_M, kc_M_window⟩ kd_M_window (by decide) ⟨Nat.le_of_ble_eq_true rfl, Nat.le_of_ble_eq_true rfl⟩ hl.1 rfl (Nat.le_of_ble_eq_true rfl) d_L_law_121 ⟨Nat.le_of_ble_eq_true rfl, Nat.le_of_ble_eq_true rfl⟩ ?_
  refine lv_icmp_eq (tgt := 551) hx hb d_L_law_124 (by decide) (fun _ => ?_) (fun c9 => absurd (rfl) c9)
  exact hnext σ u v H locs ls ⟨hok, hRX, hRM, hPX, hPM, hS⟩ hl
set_option maxHeartbeats 1000000 in
set_option maxRecDepth 100000 in
theorem law_c1 {p : Program} {l : Launch} {e : Env} {s : State} {m : MethodId} {below : List Frame} {meth : Method} {c : Code} {D : va_G} {cI cJ : ClassId} {w : Nat} {mk : Int64} {qx qm : Nat → Nat} {b L : Nat} {xs : Nat → Int32} (hL : L ≤ 2561) (C0 : lw_At p s m meth c b L xs) (hC : ea_Fix s D cI cJ w mk qx qm) {i : Nat} (hi : i + 5 ≤ L) (hnext : ∀ (σ : ea_S) (u : ea_XS) (v : ea_MS) (H : Heap) (locs : List Loc) (ls : Array Slot), ea_St s D cI cJ w mk qx qm σ u v H locs → lv_has ls 4 [(0, .ref b), (1, .ref (qx 0)), (2, .ref (qm 0)), (3, .int (nI i))] → W p l e room_1 s m #[Value.ref b] below meth c H locs 15 588 (lw_Z below #[Value.ref b] s) (F0 m 551 ls [])) (σ : ea_S) (u : ea_XS) (v : ea_MS) (H : Heap) (locs : List Loc) (ls : Array Slot) (hSt : ea_St s D cI cJ w mk qx qm σ u v H locs) (hl : lv_has ls 4 [(0, .ref b), (1, .ref (qx 0)), (2, .ref (qm 0)), (3, .int (nI i))]) : W p l e room_1 s m #[Value.ref b] below meth c H locs 15 588 (lw_Z below #[Value.ref b] s) (F0 m 129 ls []) := by
  obtain ⟨hx, hb, hr, hml, hown, hts0, hX, hbl, hlocks, hgv⟩ := C0
  have hts := ea_hts hts0
  have hbA : ¬ (fun q : Nat => s.heap.size ≤ q) b := Nat.not_le.mpr hbl
  obtain ⟨hcx, hqx, hqm, hdis, hax, ham, hK⟩ := hC
  have hw : 4 ≤ w ∧ w ≤ 64 := ⟨hcx.1, hcx.2.1⟩
  obtain ⟨hok, hRX, hRM, hPX, hPM, hS⟩ := hSt
  refine lv_aload_n hx hb d_L_law_129 rfl (lv_at hl 1 rfl) ?_
  refine lv_aload_n hx hb d_L_law_130 rfl (lv_at hl 0 rfl) ?_
  refine lv_iload_n hx hb d_L_law_131 rfl (lv_at hl 3 rfl) ?_
  refine lv_iconst (v := (nI 1)) hx hb d_L_law_132 (by decide) ?_
  refine lv_iadd hx hb d_L_law_133 ?_
  refine ea_ti (y := (nI (i + 1))) (nI_add _ _) ?_
  refine ea_sld hx hb hX hbl hbA hS (i + 1) rfl (by omega) (by omega) d_L_law_134 ?_
  refine lv_aload_n hx hb d_L_law_135 rfl (lv_at hl 0 rfl) ?_
  refine lv_iload_n hx hb d_L_law_136 rfl (lv_at hl 3 rfl) ?_
  refine lv_iconst (v := (nI 2)) hx hb d_L_law_137 (by decide) ?_
  refine lv_iadd hx hb d_L_law_138 ?_
  refine ea_ti (y := (nI (i + 2))) (nI_add _ _) ?_
  refine ea_sld hx hb hX hbl hbA hS (i + 2) rfl (by omega) (by omega) d_L_law_139 ?_
  refine lv_aload_n hx hb d_L_law_140 rfl (lv_at hl 0 rfl) ?_
  refine lv_iload_n hx hb d_L_law_141 rfl (lv_at hl 3 rfl) ?_
  refine lv_iconst (v := (nI 3)) hx hb d_L_law_142 (by decide) ?_
  refine lv_iadd hx hb d_L_law_143 ?_
  refine ea_ti (y := (nI (i + 3))) (nI_add _ _) ?_
  refine ea_sld hx hb hX hbl hbA hS (i + 3) rfl (by omega) (by omega) d_L_law_144 ?_
  refine ea_callW (As := [.int ((xs (i + 1))), .int ((xs (i + 2))), .int ((xs (i + 3)))]) (rest := []) ⟨hx, hb, hml, hown, hts⟩ hK hPX rfl rfl (c_X_receive l D qx hqx cI cJ w mk hcx σ hok u hRX (xs (i + 1)) (xs (i + 2)) (xs (i + 3))) ⟨kl_L_26, kn_X_receive, ks_X_receive, ki_X, kc_X_receive⟩ kd_X_receive (by decide) ⟨Nat.le_of_ble_eq_true rfl, Nat.le_of_ble_eq_true rfl⟩ hl.1 rfl (Nat.le_of_ble_eq_true rfl) d_L_law_145 ⟨Nat.le_of_ble_eq_true rfl, Nat.le_of_ble_eq_true rfl⟩ hS (fun a h => by obtain ⟨j, hj, rfl⟩ := h; exact hax j hj) (fun r1 u1 H1 locs1 hpo1 hPU1 hz1 hk1 hS => ?_)
  have hPX : va_P D ea_cl (ea_wX qx cI cJ (nI w) mk u1) H1 := hPU1
  have hPM := ea_keepM hPM hqm hdis hk1
  refine lv_aload_n hx hb d_L_law_148 rfl (lv_at hl 2 rfl) ?_
  refine lv_aload_n hx hb d_L_law_149 rfl (lv_at hl 0 rfl) ?_
  refine lv_iload_n hx hb d_L_law_150 rfl (lv_at hl 3 rfl) ?_
  refine lv_iconst (v := (nI 1)) hx hb d_L_law_151 (by decide) ?_
  refine lv_iadd hx hb d_L_law_152 ?_
  refine ea_ti (y := (nI (i + 1))) (nI_add _ _) ?_
  refine ea_sld hx hb hX hbl hbA hS (i + 1) rfl (by omega) (by omega) d_L_law_153 ?_
  refine lv_aload_n hx hb d_L_law_154 rfl (lv_at hl 0 rfl) ?_
  refine lv_iload_n hx hb d_L_law_155 rfl (lv_at hl 3 rfl) ?_
  refine lv_iconst (v := (nI 2)) hx hb d_L_law_156 (by decide) ?_
  refine lv_iadd hx hb d_L_law_157 ?_
  refine ea_ti (y := (nI (i + 2))) (nI_add _ _) ?_
  refine ea_sld hx hb hX hbl hbA hS (i + 2) rfl (by omega) (by omega) d_L_law_158 ?_
  refine lv_aload_n hx hb d_L_law_159 rfl (lv_at hl 0 rfl) ?_
  refine lv_iload_n hx hb d_L_law_160 rfl (lv_at hl 3 rfl) ?_
  refine lv_iconst (v := (nI 3)) hx hb d_L_law_161 (by decide) ?_
  refine lv_iadd hx hb d_L_law_162 ?_
  refine ea_ti (y := (nI (i + 3))) (nI_add _ _) ?_
  refine ea_sld hx hb hX hbl hbA hS (i + 3) rfl (by omega) (by omega) d_L_law_163 ?_
  refine ea_callW (As := [.int ((xs (i + 1))), .int ((xs (i + 2))), .int ((xs (i + 3)))]) (rest := [.int r1]) ⟨hx, hb, hml, hown, hts⟩ hK hPM rfl rfl (c_M_receive l D qm hqm cI cJ w hw σ hok v hRM (xs (i + 1)) (xs (i + 2)) (xs (i + 3))) ⟨kl_L_30, kn_M_receive, ks_M_receive, ki_M, kc_M_receive⟩ kd_M_receive (by decide) ⟨Nat.le_of_ble_eq_true rfl, Nat.le_of_ble_eq_true rfl⟩ hl.1 rfl (Nat.le_of_ble_eq_true rfl) d_L_law_164 ⟨Nat.le_of_ble_eq_true rfl, Nat.le_of_ble_eq_true rfl⟩ hS (fun a h => by obtain ⟨j, hj, rfl⟩ := h; exact ham j hj) (fun r2 v1 H2 locs2 hpo2 hPU2 hz2 hk2 hS => ?_)
  have hPM : va_P D ea_cl (ea_wM qm cI (nI w) v1) H2 := hPU2
  have hPX := ea_keepX hPX hqx hdis hk2
  refine lv_icmp_eq (tgt := 551) hx hb d_L_law_167 (by decide) (fun _ => ?_) (fun c9 => absurd (hpo1.1.trans hpo2.1.symm) c9)
  exact hnext (sp_receive w σ (xs (i + 1)) (xs (i + 2)) (xs (i + 3))).2 u1 v1 _ _ ls ⟨ea_ok_rec hcx.2.1 hok, hpo1.2, hpo2.2, hPX, hPM, hS⟩ hl
set_option maxHeartbeats 1000000 in
set_option maxRecDepth 100000 in
theorem law_c2 {p : Program} {l : Launch} {e : Env} {s : State} {m : MethodId} {below : List Frame} {meth : Method} {c : Code} {D : va_G} {cI cJ : ClassId} {w : Nat} {mk : Int64} {qx qm : Nat → Nat} {b L : Nat} {xs : Nat → Int32} (hL : L ≤ 2561) (C0 : lw_At p s m meth c b L xs) (hC : ea_Fix s D cI cJ w mk qx qm) {i : Nat} (hi : i + 5 ≤ L) (hnext : ∀ (σ : ea_S) (u : ea_XS) (v : ea_MS) (H : Heap) (locs : List Loc) (ls : Array Slot), ea_St s D cI cJ w mk qx qm σ u v H locs → lv_has ls 4 [(0, .ref b), (1, .ref (qx 0)), (2, .ref (qm 0)), (3, .int (nI i))] → W p l e room_1 s m #[Value.ref b] below meth c H locs 15 588 (lw_Z below #[Value.ref b] s) (F0 m 551 ls [])) (σ : ea_S) (u : ea_XS) (v : ea_MS) (H : Heap) (locs : List Loc) (ls : Array Slot) (hSt : ea_St s D cI cJ w mk qx qm σ u v H locs) (hl : lv_has ls 4 [(0, .ref b), (1, .ref (qx 0)), (2, .ref (qm 0)), (3, .int (nI i))]) : W p l e room_1 s m #[Value.ref b] below meth c H locs 15 588 (lw_Z below #[Value.ref b] s) (F0 m 172 ls []) := by
  obtain ⟨hx, hb, hr, hml, hown, hts0, hX, hbl, hlocks, hgv⟩ := C0
  have hts := ea_hts hts0
  have hbA : ¬ (fun q : Nat => s.heap.size ≤ q) b := Nat.not_le.mpr hbl
  obtain ⟨hcx, hqx, hqm, hdis, hax, ham, hK⟩ := hC
  have hw : 4 ≤ w ∧ w ≤ 64 := ⟨hcx.1, hcx.2.1⟩
  obtain ⟨hok, hRX, hRM, hPX, hPM, hS⟩ := hSt
  refine lv_aload_n hx hb d_L_law_172 rfl (lv_at hl 1 rfl) ?_
  refine lv_aload_n hx hb d_L_law_173 rfl (lv_at hl 0 rfl) ?_
  refine lv_iload_n hx hb d_L_law_174 rfl (lv_at hl 3 rfl) ?_
  refine lv_iconst (v := (nI 1)) hx hb d_L_law_175 (by decide) ?_
  refine lv_iadd hx hb d_L_law_176 ?_
  refine ea_ti (y := (nI (i + 1))) (nI_add _ _) ?_
  refine ea_sld hx hb hX hbl hbA hS (i + 1) rfl (by omega) (by omega) d_L_law_177 ?_
  refine lv_aload_n hx hb d_L_law_178 rfl (lv_at hl 0 rfl) ?_
  refine lv_iload_n hx hb d_L_law_179 rfl (lv_at hl 3 rfl) ?_
  refine lv_iconst (v := (nI 2)) hx hb d_L_law_180 (by decide) ?_
  refine lv_iadd hx hb d_L_law_181 ?_
  refine ea_ti (y := (nI (i + 2))) (nI_add _ _) ?_
  refine ea_sld hx hb hX hbl hbA hS (i + 2) rfl (by omega) (by omega) d_L_law_182 ?_
  refine lv_aload_n hx hb d_L_law_183 rfl (lv_at hl 0 rfl) ?_
  refine lv_iload_n hx hb d_L_law_184 rfl (lv_at hl 3 rfl) ?_
  refine lv_iconst (v := (nI 3)) hx hb d_L_law_185 (by decide) ?_
  refine lv_iadd hx hb d_L_law_186 ?_
  refine ea_ti (y := (nI (i + 3))) (nI_add _ _) ?_
  refine ea_sld hx hb hX hbl hbA hS (i + 3) rfl (by omega) (by omega) d_L_law_187 ?_
  refine lv_aload_n hx hb d_L_law_188 rfl (lv_at hl 0 rfl) ?_
  refine lv_iload_n hx hb d_L_law_189 rfl (lv_at hl 3 rfl) ?_
  refine lv_iconst (v := (nI 4)) hx hb d_L_law_190 (by decide) ?_
  refine lv_iadd hx hb d_L_law_191 ?_
  refine ea_ti (y := (nI (i + 4))) (nI_add _ _) ?_
  refine ea_sld hx hb hX hbl hbA hS (i + 4) rfl (by omega) (by omega) d_L_law_192 ?_
  refine ea_callW (As := [.int ((xs (i + 1))), .int ((xs (i + 2))), .int ((xs (i + 3))), .int ((xs (i + 4)))]) (rest := []) ⟨hx, hb, hml, hown, hts⟩ hK hPX rfl rfl (c_X_burst l D qx hqx cI cJ w mk hcx σ hok u hRX (xs (i + 1)) (xs (i + 2)) (xs (i + 3)) (xs (i + 4))) ⟨kl_L_31, kn_X_burst, ks_X_burst, ki_X, kc_X_burst⟩ kd_X_burst (by decide) ⟨Nat.le_of_ble_eq_true rfl, Nat.le_of_ble_eq_true rfl⟩ hl.1 rfl (Nat.le_of_ble_eq_true rfl) d_L_law_193 ⟨Nat.le_of_ble_eq_true rfl, Nat.le_of_ble_eq_true rfl⟩ hS (fun a h => by obtain ⟨j, hj, rfl⟩ := h; exact hax j hj) (fun r1 u1 H1 locs1 hpo1 hPU1 hz1 hk1 hS => ?_)
  have hPX : va_P D ea_cl (ea_wX qx cI cJ (nI w) mk u1) H1 := hPU1
  have hPM := ea_keepM hPM hqm hdis hk1
  refine lv_aload_n hx hb d_L_law_196 rfl (lv_at hl 2 rfl) ?_
  refine lv_aload_n hx hb d_L_law_197 rfl (lv_at hl 0 rfl) ?_
  refine lv_iload_n hx hb d_L_law_198 rfl (lv_at hl 3 rfl) ?_
  refine lv_iconst (v := (nI 1)) hx hb d_L_law_199 (by decide) ?_
  refine lv_iadd hx hb d_L_law_200 ?_
  refine ea_ti (y := (nI (i + 1))) (nI_add _ _) ?_
  refine ea_sld hx hb hX hbl hbA hS (i + 1) rfl (by omega) (by omega) d_L_law_201 ?_
  refine lv_aload_n hx hb d_L_law_202 rfl (lv_at hl 0 rfl) ?_
  refine lv_iload_n hx hb d_L_law_203 rfl (lv_at hl 3 rfl) ?_
  refine lv_iconst (v := (nI 2)) hx hb d_L_law_204 (by decide) ?_
  refine lv_iadd hx hb d_L_law_205 ?_
  refine ea_ti (y := (nI (i + 2))) (nI_add _ _) ?_
  refine ea_sld hx hb hX hbl hbA hS (i + 2) rfl (by omega) (by omega) d_L_law_206 ?_
  refine lv_aload_n hx hb d_L_law_207 rfl (lv_at hl 0 rfl) ?_
  refine lv_iload_n hx hb d_L_law_208 rfl (lv_at hl 3 rfl) ?_
  refine lv_iconst (v := (nI 3)) hx hb d_L_law_209 (by decide) ?_
  refine lv_iadd hx hb d_L_law_210 ?_
  refine ea_ti (y := (nI (i + 3))) (nI_add _ _) ?_
  refine ea_sld hx hb hX hbl hbA hS (i + 3) rfl (by omega) (by omega) d_L_law_211 ?_
  refine lv_aload_n hx hb d_L_law_212 rfl (lv_at hl 0 rfl) ?_
  refine lv_iload_n hx hb d_L_law_213 rfl (lv_at hl 3 rfl) ?_
  refine lv_iconst (v := (nI 4)) hx hb d_L_law_214 (by decide) ?_
  refine lv_iadd hx hb d_L_law_215 ?_
  refine ea_ti (y := (nI (i + 4))) (nI_add _ _) ?_
  refine ea_sld hx hb hX hbl hbA hS (i + 4) rfl (by omega) (by omega) d_L_law_216 ?_
  refine ea_callW (As := [.int ((xs (i + 1))), .int ((xs (i + 2))), .int ((xs (i + 3))), .int ((xs (i + 4)))]) (rest := [.int r1]) ⟨hx, hb, hml, hown, hts⟩ hK hPM rfl rfl (c_M_burst l D qm hqm cI cJ w hw σ hok v hRM (xs (i + 1)) (xs (i + 2)) (xs (i + 3)) (xs (i + 4))) ⟨kl_L_35, kn_M_burst, ks_M_burst, ki_M, kc_M_burst⟩ kd_M_burst (by decide) ⟨Nat.le_of_ble_eq_true rfl, Nat.le_of_ble_eq_true rfl⟩ hl.1 rfl (Nat.le_of_ble_eq_true rfl) d_L_law_217 ⟨Nat.le_of_ble_eq_true rfl, Nat.le_of_ble_eq_true rfl⟩ hS (fun a h => by obtain ⟨j, hj, rfl⟩ := h; exact ham j hj) (fun r2 v1 H2 locs2 hpo2 hPU2 hz2 hk2 hS => ?_)
  have hPM : va_P D ea_cl (ea_wM qm cI (nI w) v1) H2 := hPU2
  have hPX := ea_keepX hPX hqx hdis hk2
  refine lv_icmp_eq (tgt := 551) hx hb d_L_law_220 (by decide) (fun _ => ?_) (fun c9 => absurd (hpo1.1.trans hpo2.1.symm) c9)
  exact hnext (sp_burst w σ (xs (i + 1)) (xs (i + 2)) (xs (i + 3)) (xs (i + 4))).2 u1 v1 _ _ ls ⟨ea_ok_bur hcx.2.1 hok, hpo1.2, hpo2.2, hPX, hPM, hS⟩ hl
set_option maxHeartbeats 1000000 in
set_option maxRecDepth 100000 in
theorem law_c3 {p : Program} {l : Launch} {e : Env} {s : State} {m : MethodId} {below : List Frame} {meth : Method} {c : Code} {D : va_G} {cI cJ : ClassId} {w : Nat} {mk : Int64} {qx qm : Nat → Nat} {b L : Nat} {xs : Nat → Int32} (hL : L ≤ 2561) (C0 : lw_At p s m meth c b L xs) (hC : ea_Fix s D cI cJ w mk qx qm) {i : Nat} (hi : i + 5 ≤ L) (hnext : ∀ (σ : ea_S) (u : ea_XS) (v : ea_MS) (H : Heap) (locs : List Loc) (ls : Array Slot), ea_St s D cI cJ w mk qx qm σ u v H locs → lv_has ls 4 [(0, .ref b), (1, .ref (qx 0)), (2, .ref (qm 0)), (3, .int (nI i))] → W p l e room_1 s m #[Value.ref b] below meth c H locs 15 588 (lw_Z below #[Value.ref b] s) (F0 m 551 ls [])) (σ : ea_S) (u : ea_XS) (v : ea_MS) (H : Heap) (locs : List Loc) (ls : Array Slot) (hSt : ea_St s D cI cJ w mk qx qm σ u v H locs) (hl : lv_has ls 4 [(0, .ref b), (1, .ref (qx 0)), (2, .ref (qm 0)), (3, .int (nI i))]) : W p l e room_1 s m #[Value.ref b] below meth c H locs 15 588 (lw_Z below #[Value.ref b] s) (F0 m 225 ls []) := by
  obtain ⟨hx, hb, hr, hml, hown, hts0, hX, hbl, hlocks, hgv⟩ := C0
  have hts := ea_hts hts0
  have hbA : ¬ (fun q : Nat => s.heap.size ≤ q) b := Nat.not_le.mpr hbl
  obtain ⟨hcx, hqx, hqm, hdis, hax, ham, hK⟩ := hC
  have hw : 4 ≤ w ∧ w ≤ 64 := ⟨hcx.1, hcx.2.1⟩
  obtain ⟨hok, hRX, hRM, hPX, hPM, hS⟩ := hSt
  refine lv_aload_n hx hb d_L_law_225 rfl (lv_at hl 1 rfl) ?_
  refine lv_aload_n hx hb d_L_law_226 rfl (lv_at hl 0 rfl) ?_
  refine lv_iload_n hx hb d_L_law_227 rfl (lv_at hl 3 rfl) ?_
  refine lv_iconst (v := (nI 1)) hx hb d_L_law_228 (by decide) ?_
  refine lv_iadd hx hb d_L_law_229 ?_
  refine ea_ti (y := (nI (i + 1))) (nI_add _ _) ?_
  refine ea_sld hx hb hX hbl hbA hS (i + 1) rfl (by omega) (by omega) d_L_law_230 ?_
  refine ea_callW (As := [.int ((xs (i + 1)))]) (rest := []) ⟨hx, hb, hml, hown, hts⟩ hK hPX rfl rfl (c_X_rekey l D qx hqx cI cJ w mk hcx σ hok u hRX (xs (i + 1))) ⟨kl_L_36, kn_X_rekey, ks_X_rekey, ki_X, kc_X_rekey⟩ kd_X_rekey (by decide) ⟨Nat.le_of_ble_eq_true rfl, Nat.le_of_ble_eq_true rfl⟩ hl.1 rfl (Nat.le_of_ble_eq_true rfl) d_L_law_231 ⟨Nat.le_of_ble_eq_true rfl, Nat.le_of_ble_eq_true rfl⟩ hS (fun a h => by obtain ⟨j, hj, rfl⟩ := h; exact hax j hj) (fun r1 u1 H1 locs1 hpo1 hPU1 hz1 hk1 hS => ?_)
  have hPX : va_P D ea_cl (ea_wX qx cI cJ (nI w) mk u1) H1 := hPU1
  have hPM := ea_keepM hPM hqm hdis hk1
  refine lv_aload_n hx hb d_L_law_234 rfl (lv_at hl 2 rfl) ?_
  refine lv_aload_n hx hb d_L_law_235 rfl (lv_at hl 0 rfl) ?_
  refine lv_iload_n hx hb d_L_law_236 rfl (lv_at hl 3 rfl) ?_
  refine lv_iconst (v := (nI 1)) hx hb d_L_law_237 (by decide) ?_
  refine lv_iadd hx hb d_L_law_238 ?_
  refine ea_ti (y := (nI (i + 1))) (nI_add _ _) ?_
  refine ea_sld hx hb hX hbl hbA hS (i + 1) rfl (by omega) (by omega) d_L_law_239 ?_
  refine ea_callW (As := [.int ((xs (i + 1)))]) (rest := [.int r1]) ⟨hx, hb, hml, hown, hts⟩ hK hPM rfl rfl (c_M_rekey l D qm hqm cI cJ w hw σ hok v hRM (xs (i + 1))) ⟨kl_L_40, kn_M_rekey, ks_M_rekey, ki_M, kc_M_rekey⟩ kd_M_rekey (by decide) ⟨Nat.le_of_ble_eq_true rfl, Nat.le_of_ble_eq_true rfl⟩ hl.1 rfl (Nat.le_of_ble_eq_true rfl) d_L_law_240 ⟨Nat.le_of_ble_eq_true rfl, Nat.le_of_ble_eq_true rfl⟩ hS (fun a h => by obtain ⟨j, hj, rfl⟩ := h; exact ham j hj) (fun r2 v1 H2 locs2 hpo2 hPU2 hz2 hk2 hS => ?_)
  have hPM : va_P D ea_cl (ea_wM qm cI (nI w) v1) H2 := hPU2
  have hPX := ea_keepX hPX hqx hdis hk2
  refine lv_icmp_eq (tgt := 551) hx hb d_L_law_243 (by decide) (fun _ => ?_) (fun c9 => absurd (hpo1.1.trans hpo2.1.symm) c9)
  exact hnext (sp_rekey σ (xs (i + 1))).2 u1 v1 _ _ ls ⟨ea_ok_rek hok, hpo1.2, hpo2.2, hPX, hPM, hS⟩ hl
set_option maxHeartbeats 1000000 in
set_option maxRecDepth 100000 in
theorem law_c4 {p : Program} {l : Launch} {e : Env} {s : State} {m : MethodId} {below : List Frame} {meth : Method} {c : Code} {D : va_G} {cI cJ : ClassId} {w : Nat} {mk : Int64} {qx qm : Nat → Nat} {b L : Nat} {xs : Nat → Int32} (hL : L ≤ 2561) (C0 : lw_At p s m meth c b L xs) (hC : ea_Fix s D cI cJ w mk qx qm) {i : Nat} (hi : i + 5 ≤ L) (hnext : ∀ (σ : ea_S) (u : ea_XS) (v : ea_MS) (H : Heap) (locs : List Loc) (ls : Array Slot), ea_St s D cI cJ w mk qx qm σ u v H locs → lv_has ls 4 [(0, .ref b), (1, .ref (qx 0)), (2, .ref (qm 0)), (3, .int (nI i))] → W p l e room_1 s m #[Value.ref b] below meth c H locs 15 588 (lw_Z below #[Value.ref b] s) (F0 m 551 ls [])) (σ : ea_S) (u : ea_XS) (v : ea_MS) (H : Heap) (locs : List Loc) (ls : Array Slot) (hSt : ea_St s D cI cJ w mk qx qm σ u v H locs) (hl : lv_has ls 4 [(0, .ref b), (1, .ref (qx 0)), (2, .ref (qm 0)), (3, .int (nI i))]) : W p l e room_1 s m #[Value.ref b] below meth c H locs 15 588 (lw_Z below #[Value.ref b] s) (F0 m 248 ls []) := by
  obtain ⟨hx, hb, hr, hml, hown, hts0, hX, hbl, hlocks, hgv⟩ := C0
  have hts := ea_hts hts0
  have hbA : ¬ (fun q : Nat => s.heap.size ≤ q) b := Nat.not_le.mpr hbl
  obtain ⟨hcx, hqx, hqm, hdis, hax, ham, hK⟩ := hC
  have hw : 4 ≤ w ∧ w ≤ 64 := ⟨hcx.1, hcx.2.1⟩
  obtain ⟨hok, hRX, hRM, hPX, hPM, hS⟩ := hSt
  refine lv_aload_n hx hb d_L_law_248 rfl (lv_at hl 1 rfl) ?_
  refine lv_aload_n hx hb d_L_law_249 rfl (lv_at hl 0 rfl) ?_
  refine lv_iload_n hx hb d_L_law_250 rfl (lv_at hl 3 rfl) ?_
  refine lv_iconst (v := (nI 1)) hx hb d_L_law_251 (by decide) ?_
  refine lv_iadd hx hb d_L_law_252 ?_
  refine ea_ti (y := (nI (i + 1))) (nI_add _ _) ?_
  refine ea_sld hx hb hX hbl hbA hS (i + 1) rfl (by omega) (by omega) d_L_law_253 ?_
  refine lv_aload_n hx hb d_L_law_254 rfl (lv_at hl 0 rfl) ?_
  refine lv_iload_n hx hb d_L_law_255 rfl (lv_at hl 3 rfl) ?_
  refine lv_iconst (v := (nI 2)) hx hb d_L_law_256 (by decide) ?_
  refine lv_iadd hx hb d_L_law_257 ?_
  refine ea_ti (y := (nI (i + 2))) (nI_add _ _) ?_
  refine ea_sld hx hb hX hbl hbA hS (i + 2) rfl (by omega) (by omega) d_L_law_258 ?_
  refine lv_aload_n hx hb d_L_law_259 rfl (lv_at hl 0 rfl) ?_
  refine lv_iload_n hx hb d_L_law_260 rfl (lv_at hl 3 rfl) ?_
  refine lv_iconst (v := (nI 3)) hx hb d_L_law_261 (by decide) ?_
  refine lv_iadd hx hb d_L_law_262 ?_
  refine ea_ti (y := (nI (i + 3))) (nI_add _ _) ?_
  refine ea_sld hx hb hX hbl hbA hS (i + 3) rfl (by omega) (by omega) d_L_law_263 ?_
  refine ea_callW (As := [.int ((xs (i + 1))), .int ((xs (i + 2))), .int ((xs (i + 3)))]) (rest := []) ⟨hx, hb, hml, hown, hts⟩ hK hPX rfl rfl (c_X_limits l D qx hqx cI cJ w mk hcx σ hok u hRX (xs (i + 1)) (xs (i + 2)) (xs (i + 3))) ⟨kl_L_41, kn_X_limits, ks_X_limits, ki_X, kc_X_limits⟩ kd_X_limits (by decide) ⟨Nat.le_of_ble_eq_true rfl, Nat.le_of_ble_eq_true rfl⟩ hl.1 rfl (Nat.le_of_ble_eq_true rfl) d_L_law_264 ⟨Nat.le_of_ble_eq_true rfl, Nat.le_of_ble_eq_true rfl⟩ hS (fun a h => by obtain ⟨j, hj, rfl⟩ := h; exact hax j hj) (fun r1 u1 H1 locs1 hpo1 hPU1 hz1 hk1 hS => ?_)
  have hPX : va_P D ea_cl (ea_wX qx cI cJ (nI w) mk u1) H1 := hPU1
  have hPM := ea_keepM hPM hqm hdis hk1
  refine lv_aload_n hx hb d_L_law_267 rfl (lv_at hl 2 rfl) ?_
  refine lv_aload_n hx hb d_L_law_268 rfl (lv_at hl 0 rfl) ?_
  refine lv_iload_n hx hb d_L_law_269 rfl (lv_at hl 3 rfl) ?_
  refine lv_iconst (v := (nI 1)) hx hb d_L_law_270 (by decide) ?_
  refine lv_iadd hx hb d_L_law_271 ?_
  refine ea_ti (y := (nI (i + 1))) (nI_add _ _) ?_
  refine ea_sld hx hb hX hbl hbA hS (i + 1) rfl (by omega) (by omega) d_L_law_272 ?_
  refine lv_aload_n hx hb d_L_law_273 rfl (lv_at hl 0 rfl) ?_
  refine lv_iload_n hx hb d_L_law_274 rfl (lv_at hl 3 rfl) ?_
  refine lv_iconst (v := (nI 2)) hx hb d_L_law_275 (by decide) ?_
  refine lv_iadd hx hb d_L_law_276 ?_
  refine ea_ti (y := (nI (i + 2))) (nI_add _ _) ?_
  refine ea_sld hx hb hX hbl hbA hS (i + 2) rfl (by omega) (by omega) d_L_law_277 ?_
  refine lv_aload_n hx hb d_L_law_278 rfl (lv_at hl 0 rfl) ?_
  refine lv_iload_n hx hb d_L_law_279 rfl (lv_at hl 3 rfl) ?_
  refine lv_iconst (v := (nI 3)) hx hb d_L_law_280 (by decide) ?_
  refine lv_iadd hx hb d_L_law_281 ?_
  refine ea_ti (y := (nI (i + 3))) (nI_add _ _) ?_
  refine ea_sld hx hb hX hbl hbA hS (i + 3) rfl (by omega) (by omega) d_L_law_282 ?_
  refine ea_callW (As := [.int ((xs (i + 1))), .int ((xs (i + 2))), .int ((xs (i + 3)))]) (rest := [.int r1]) ⟨hx, hb, hml, hown, hts⟩ hK hPM rfl rfl (c_M_limits l D qm hqm cI cJ w hw σ hok v hRM (xs (i + 1)) (xs (i + 2)) (xs (i + 3))) ⟨kl_L_44, kn_M_limits, ks_M_limits, ki_M, kc_M_limits⟩ kd_M_limits (by decide) ⟨Nat.le_of_ble_eq_true rfl, Nat.le_of_ble_eq_true rfl⟩ hl.1 rfl (Nat.le_of_ble_eq_true rfl) d_L_law_283 ⟨Nat.le_of_ble_eq_true rfl, Nat.le_of_ble_eq_true rfl⟩ hS (fun a h => by obtain ⟨j, hj, rfl⟩ := h; exact ham j hj) (fun r2 v1 H2 locs2 hpo2 hPU2 hz2 hk2 hS => ?_)
  have hPM : va_P D ea_cl (ea_wM qm cI (nI w) v1) H2 := hPU2
  have hPX := ea_keepX hPX hqx hdis hk2
  refine lv_icmp_eq (tgt := 551) hx hb d_L_law_286 (by decide) (fun _ => ?_) (fun c9 => absurd (hpo1.1.trans hpo2.1.symm) c9)
  exact hnext (sp_limits σ (xs (i + 1)) (xs (i + 2)) (xs (i + 3))).2 u1 v1 _ _ ls ⟨ea_ok_lims hok, hpo1.2, hpo2.2, hPX, hPM, hS⟩ hl
set_option maxHeartbeats 1000000 in
set_option maxRecDepth 100000 in
theorem law_c5 {p : Program} {l : Launch} {e : Env} {s : State} {m : MethodId} {below : List Frame} {meth : Method} {c : Code} {D : va_G} {cI cJ : ClassId} {w : Nat} {mk : Int64} {qx qm : Nat → Nat} {b L : Nat} {xs : Nat → Int32} (hL : L ≤ 2561) (C0 : lw_At p s m meth c b L xs) (hC : ea_Fix s D cI cJ w mk qx qm) {i : Nat} (hi : i + 5 ≤ L) (hnext : ∀ (σ : ea_S) (u : ea_XS) (v : ea_MS) (H : Heap) (locs : List Loc) (ls : Array Slot), ea_St s D cI cJ w mk qx qm σ u v H locs → lv_has ls 4 [(0, .ref b), (1, .ref (qx 0)), (2, .ref (qm 0)), (3, .int (nI i))] → W p l e room_1 s m #[Value.ref b] below meth c H locs 15 588 (lw_Z below #[Value.ref b] s) (F0 m 551 ls [])) (σ : ea_S) (u : ea_XS) (v : ea_MS) (H : Heap) (locs : List Loc) (ls : Array Slot) (hSt : ea_St s D cI cJ w mk qx qm σ u v H locs) (hl : lv_has ls 4 [(0, .ref b), (1, .ref (qx 0)), (2, .ref (qm 0)), (3, .int (nI i))]) : W p l e room_1 s m #[Value.ref b] below meth c H locs 15 588 (lw_Z below #[Value.ref b] s) (F0 m 291 ls []) := by
  obtain ⟨hx, hb, hr, hml, hown, hts0, hX, hbl, hlocks, hgv⟩ := C0
  have hts := ea_hts hts0
  have hbA : ¬ (fun q : Nat => s.heap.size ≤ q) b := Nat.not_le.mpr hbl
  obtain ⟨hcx, hqx, hqm, hdis, hax, ham, hK⟩ := hC
  have hw : 4 ≤ w ∧ w ≤ 64 := ⟨hcx.1, hcx.2.1⟩
  obtain ⟨hok, hRX, hRM, hPX, hPM, hS⟩ := hSt
  refine lv_aload_n hx hb d_L_law_291 rfl (lv_at hl 1 rfl) ?_
  refine lv_aload_n hx hb d_L_law_292 rfl (lv_at hl 0 rfl) ?_
  refine lv_iload_n hx hb d_L_law_293 rfl (lv_at hl 3 rfl) ?_
  refine lv_iconst (v := (nI 1)) hx hb d_L_law_294 (by decide) ?_
  refine lv_iadd hx hb d_L_law_295 ?_
  refine ea_ti (y := (nI (i + 1))) (nI_add _ _) ?_
  refine ea_sld hx hb hX hbl hbA hS (i + 1) rfl (by omega) (by omega) d_L_law_296 ?_
  refine ea_callR (As := [.int ((xs (i + 1)))]) (rest := []) (r := (sp_top σ (xs (i + 1)))) ⟨hx, hb, hml, hown, hts⟩ hK hPX rfl rfl (c_X_top l D qx cI cJ w mk hcx σ hok u hRX (xs (i + 1))) ⟨kl_L_45, kn_X_top, ks_X_top, ki_X, kc_X_top⟩ kd_X_top (by decide) ⟨Nat.le_of_ble_eq_true rfl, Nat.le_of_ble_eq_true rfl⟩ hl.1 rfl (Nat.le_of_ble_eq_true rfl) d_L_law_297 ⟨Nat.le_of_ble_eq_true rfl, Nat.le_of_ble_eq_true rfl⟩ ?_
  refine lv_aload_n hx hb d_L_law_300 rfl (lv_at hl 2 rfl) ?_
  refine lv_aload_n hx hb d_L_law_301 rfl (lv_at hl 0 rfl) ?_
  refine lv_iload_n hx hb d_L_law_302 rfl (lv_at hl 3 rfl) ?_
  refine lv_iconst (v := (nI 1)) hx hb d_L_law_303 (by decide) ?_
  refine lv_iadd hx hb d_L_law_304 ?_
  refine ea_ti (y := (nI (i + 1))) (nI_add _ _) ?_
  refine ea_sld hx hb hX hbl hbA hS (i + 1) rfl (by omega) (by omega) d_L_law_305 ?_
  refine ea_callR (As := [.int ((xs (i + 1)))]) (rest := [.int ((sp_top σ (xs (i + 1))))]) (r := (sp_top σ (xs (i + 1)))) ⟨hx, hb, hml, hown, hts⟩ hK hPM rfl rfl (c_M_top l D qm cI cJ w hw σ hok v hRM (xs (i + 1))) ⟨kl_L_48, kn_M_top, ks_M_top, ki_M, kc_M_top⟩ kd_M_top (by decide) ⟨Nat.le_of_ble_eq_true rfl, Nat.le_of_ble_eq_true rfl⟩ hl.1 rfl (Nat.le_of_ble_eq_true rfl) d_L_law_306 ⟨Nat.le_of_ble_eq_true rfl, Nat.le_of_ble_eq_true rfl⟩ ?_
  refine lv_icmp_eq (tgt := 551) hx hb d_L_law_309 (by decide) (fun _ => ?_) (fun c9 => absurd (rfl) c9)
  exact hnext σ u v H locs ls ⟨hok, hRX, hRM, hPX, hPM, hS⟩ hl
set_option maxHeartbeats 1000000 in
set_option maxRecDepth 100000 in
theorem law_c6 {p : Program} {l : Launch} {e : Env} {s : State} {m : MethodId} {below : List Frame} {meth : Method} {c : Code} {D : va_G} {cI cJ : ClassId} {w : Nat} {mk : Int64} {qx qm : Nat → Nat} {b L : Nat} {xs : Nat → Int32} (hL : L ≤ 2561) (C0 : lw_At p s m meth c b L xs) (hC : ea_Fix s D cI cJ w mk qx qm) {i : Nat} (hi : i + 5 ≤ L) (hnext : ∀ (σ : ea_S) (u : ea_XS) (v : ea_MS) (H : Heap) (locs : List Loc) (ls : Array Slot), ea_St s D cI cJ w mk qx qm σ u v H locs → lv_has ls 4 [(0, .ref b), (1, .ref (qx 0)), (2, .ref (qm 0)), (3, .int (nI i))] → W p l e room_1 s m #[Value.ref b] below meth c H locs 15 588 (lw_Z below #[Value.ref b] s) (F0 m 551 ls [])) (σ : ea_S) (u : ea_XS) (v : ea_MS) (H : Heap) (locs : List Loc) (ls : Array Slot) (hSt : ea_St s D cI cJ w mk qx qm σ u v H locs) (hl : lv_has ls 4 [(0, .ref b), (1, .ref (qx 0)), (2, .ref (qm 0)), (3, .int (nI i))]) : W p l e room_1 s m #[Value.ref b] below meth c H locs 15 588 (lw_Z below #[Value.ref b] s) (F0 m 314 ls []) := by
  obtain ⟨hx, hb, hr, hml, hown, hts0, hX, hbl, hlocks, hgv⟩ := C0
  have hts := ea_hts hts0
  have hbA : ¬ (fun q : Nat => s.heap.size ≤ q) b := Nat.not_le.mpr hbl
  obtain ⟨hcx, hqx, hqm, hdis, hax, ham, hK⟩ := hC
  have hw : 4 ≤ w ∧ w ≤ 64 := ⟨hcx.1, hcx.2.1⟩
  obtain ⟨hok, hRX, hRM, hPX, hPM, hS⟩ := hSt
  refine lv_aload_n hx hb d_L_law_314 rfl (lv_at hl 1 rfl) ?_
  refine lv_aload_n hx hb d_L_law_315 rfl (lv_at hl 0 rfl) ?_
  refine lv_iload_n hx hb d_L_law_316 rfl (lv_at hl 3 rfl) ?_
  refine lv_iconst (v := (nI 1)) hx hb d_L_law_317 (by decide) ?_
  refine lv_iadd hx hb d_L_law_318 ?_
  refine ea_ti (y := (nI (i + 1))) (nI_add _ _) ?_
  refine ea_sld hx hb hX hbl hbA hS (i + 1) rfl (by omega) (by omega) d_L_law_319 ?_
  refine ea_callR (As := [.int ((xs (i + 1)))]) (rest := []) (r := (sp_accepted σ (xs (i + 1)))) ⟨hx, hb, hml, hown, hts⟩ hK hPX rfl rfl (c_X_accepted l D qx cI cJ w mk hcx σ hok u hRX (xs (i + 1))) ⟨kl_L_49, kn_X_accepted, ks_X_accepted, ki_X, kc_X_accepted⟩ kd_X_accepted (by decide) ⟨Nat.le_of_ble_eq_true rfl, Nat.le_of_ble_eq_true rfl⟩ hl.1 rfl (Nat.le_of_ble_eq_true rfl) d_L_law_320 ⟨Nat.le_of_ble_eq_true rfl, Nat.le_of_ble_eq_true rfl⟩ ?_
  refine lv_aload_n hx hb d_L_law_323 rfl (lv_at hl 2 rfl) ?_
  refine lv_aload_n hx hb d_L_law_324 rfl (lv_at hl 0 rfl) ?_
  refine lv_iload_n hx hb d_L_law_325 rfl (lv_at hl 3 rfl) ?_
  refine lv_iconst (v := (nI 1)) hx hb d_L_law_326 (by decide) ?_
  refine lv_iadd hx hb d_L_law_327 ?_
  refine ea_ti (y := (nI (i + 1))) (nI_add _ _) ?_
  refine ea_sld hx hb hX hbl hbA hS (i + 1) rfl (by omega) (by omega) d_L_law_328 ?_
  refine ea_callR (As := [.int ((xs (i + 1)))]) (rest := [.int ((sp_accepted σ (xs (i + 1))))]) (r := (sp_accepted σ (xs (i + 1)))) ⟨hx, hb, hml, hown, hts⟩ hK hPM rfl rfl (c_M_accepted l D qm cI cJ w hw σ hok v hRM (xs (i + 1))) ⟨kl_L_52, kn_M_accepted, ks_M_accepted, ki_M, kc_M_accepted⟩ kd_M_accepted (by decide) ⟨Nat.le_of_ble_eq_true rfl, Nat.le_of_ble_eq_true rfl⟩ hl.1 rfl (Nat.le_of_ble_eq_true rfl) d_L_law_329 ⟨Nat.le_of_ble_eq_true rfl, Nat.le_of_ble_eq_true rfl⟩ ?_
  refine lv_icmp_eq (tgt := 551) hx hb d_L_law_332 (by decide) (fun _ => ?_) (fun c9 => absurd (rfl) c9)
  exact hnext σ u v H locs ls ⟨hok, hRX, hRM, hPX, hPM, hS⟩ hl
set_option maxHeartbeats 1000000 in
set_option maxRecDepth 100000 in
theorem law_c7 {p : Program} {l : Launch} {e : Env} {s : State} {m : MethodId} {below : List Frame} {meth : Method} {c : Code} {D : va_G} {cI cJ : ClassId} {w : Nat} {mk : Int64} {qx qm : Nat → Nat} {b L : Nat} {xs : Nat → Int32} (hL : L ≤ 2561) (C0 : lw_At p s m meth c b L xs) (hC : ea_Fix s D cI cJ w mk qx qm) {i : Nat} (hi : i + 5 ≤ L) (hnext : ∀ (σ : ea_S) (u : ea_XS) (v : ea_MS) (H : Heap) (locs : List Loc) (ls : Array Slot), ea_St s D cI cJ w mk qx qm σ u v H locs → lv_has ls 4 [(0, .ref b), (1, .ref (qx 0)), (2, .ref (qm 0)), (3, .int (nI i))] → W p l e room_1 s m #[Value.ref b] below meth c H locs 15 588 (lw_Z below #[Value.ref b] s) (F0 m 551 ls [])) (σ : ea_S) (u : ea_XS) (v : ea_MS) (H : Heap) (locs : List Loc) (ls : Array Slot) (hSt : ea_St s D cI cJ w mk qx qm σ u v H locs) (hl : lv_has ls 4 [(0, .ref b), (1, .ref (qx 0)), (2, .ref (qm 0)), (3, .int (nI i))]) : W p l e room_1 s m #[Value.ref b] below meth c H locs 15 588 (lw_Z below #[Value.ref b] s) (F0 m 337 ls []) := by
  obtain ⟨hx, hb, hr, hml, hown, hts0, hX, hbl, hlocks, hgv⟩ := C0
  have hts := ea_hts hts0
  have hbA : ¬ (fun q : Nat => s.heap.size ≤ q) b := Nat.not_le.mpr hbl
  obtain ⟨hcx, hqx, hqm, hdis, hax, ham, hK⟩ := hC
  have hw : 4 ≤ w ∧ w ≤ 64 := ⟨hcx.1, hcx.2.1⟩
  obtain ⟨hok, hRX, hRM, hPX, hPM, hS⟩ := hSt
  refine lv_aload_n hx hb d_L_law_337 rfl (lv_at hl 1 rfl) ?_
  refine lv_aload_n hx hb d_L_law_338 rfl (lv_at hl 0 rfl) ?_
  refine lv_iload_n hx hb d_L_law_339 rfl (lv_at hl 3 rfl) ?_
  refine lv_iconst (v := (nI 1)) hx hb d_L_law_340 (by decide) ?_
  refine lv_iadd hx hb d_L_law_341 ?_
  refine ea_ti (y := (nI (i + 1))) (nI_add _ _) ?_
  refine ea_sld hx hb hX hbl hbA hS (i + 1) rfl (by omega) (by omega) d_L_law_342 ?_
  refine ea_callR (As := [.int ((xs (i + 1)))]) (rest := []) (r := (sp_dead σ (xs (i + 1)))) ⟨hx, hb, hml, hown, hts⟩ hK hPX rfl rfl (c_X_dead l D qx cI cJ w mk hcx σ hok u hRX (xs (i + 1))) ⟨kl_L_53, kn_X_dead, ks_X_dead, ki_X, kc_X_dead⟩ kd_X_dead (by decide) ⟨Nat.le_of_ble_eq_true rfl, Nat.le_of_ble_eq_true rfl⟩ hl.1 rfl (Nat.le_of_ble_eq_true rfl) d_L_law_343 ⟨Nat.le_of_ble_eq_true rfl, Nat.le_of_ble_eq_true rfl⟩ ?_
  refine lv_aload_n hx hb d_L_law_346 rfl (lv_at hl 2 rfl) ?_
  refine lv_aload_n hx hb d_L_law_347 rfl (lv_at hl 0 rfl) ?_
  refine lv_iload_n hx hb d_L_law_348 rfl (lv_at hl 3 rfl) ?_
  refine lv_iconst (v := (nI 1)) hx hb d_L_law_349 (by decide) ?_
  refine lv_iadd hx hb d_L_law_350 ?_
  refine ea_ti (y := (nI (i + 1))) (nI_add _ _) ?_
  refine ea_sld hx hb hX hbl hbA hS (i + 1) rfl (by omega) (by omega) d_L_law_351 ?_
  refine ea_callR (As := [.int ((xs (i + 1)))]) (rest := [.int ((sp_dead σ (xs (i + 1))))]) (r := (sp_dead σ (xs (i + 1)))) ⟨hx, hb, hml, hown, hts⟩ hK hPM rfl rfl (c_M_dead l D qm cI cJ w hw σ hok v hRM (xs (i + 1))) ⟨kl_L_56, kn_M_dead, ks_M_dead, ki_M, kc_M_dead⟩ kd_M_dead (by decide) ⟨Nat.le_of_ble_eq_true rfl, Nat.le_of_ble_eq_true rfl⟩ hl.1 rfl (Nat.le_of_ble_eq_true rfl) d_L_law_352 ⟨Nat.le_of_ble_eq_true rfl, Nat.le_of_ble_eq_true rfl⟩ ?_
  refine lv_icmp_eq (tgt := 551) hx hb d_L_law_355 (by decide) (fun _ => ?_) (fun c9 => absurd (rfl) c9)
  exact hnext σ u v H locs ls ⟨hok, hRX, hRM, hPX, hPM, hS⟩ hl
set_option maxHeartbeats 1000000 in
set_option maxRecDepth 100000 in
theorem law_c8 {p : Program} {l : Launch} {e : Env} {s : State} {m : MethodId} {below : List Frame} {meth : Method} {c : Code} {D : va_G} {cI cJ : ClassId} {w : Nat} {mk : Int64} {qx qm : Nat → Nat} {b L : Nat} {xs : Nat → Int32} (hL : L ≤ 2561) (C0 : lw_At p s m meth c b L xs) (hC : ea_Fix s D cI cJ w mk qx qm) {i : Nat} (hi : i + 5 ≤ L) (hnext : ∀ (σ : ea_S) (u : ea_XS) (v : ea_MS) (H : Heap) (locs : List Loc) (ls : Array Slot), ea_St s D cI cJ w mk qx qm σ u v H locs → lv_has ls 4 [(0, .ref b), (1, .ref (qx 0)), (2, .ref (qm 0)), (3, .int (nI i))] → W p l e room_1 s m #[Value.ref b] below meth c H locs 15 588 (lw_Z below #[Value.ref b] s) (F0 m 551 ls [])) (σ : ea_S) (u : ea_XS) (v : ea_MS) (H : Heap) (locs : List Loc) (ls : Array Slot) (hSt : ea_St s D cI cJ w mk qx qm σ u v H locs) (hl : lv_has ls 4 [(0, .ref b), (1, .ref (qx 0)), (2, .ref (qm 0)), (3, .int (nI i))]) : W p l e room_1 s m #[Value.ref b] below meth c H locs 15 588 (lw_Z below #[Value.ref b] s) (F0 m 360 ls []) := by
  obtain ⟨hx, hb, hr, hml, hown, hts0, hX, hbl, hlocks, hgv⟩ := C0
  have hts := ea_hts hts0
  have hbA : ¬ (fun q : Nat => s.heap.size ≤ q) b := Nat.not_le.mpr hbl
  obtain ⟨hcx, hqx, hqm, hdis, hax, ham, hK⟩ := hC
  have hw : 4 ≤ w ∧ w ≤ 64 := ⟨hcx.1, hcx.2.1⟩
  obtain ⟨hok, hRX, hRM, hPX, hPM, hS⟩ := hSt
  refine lv_aload_n hx hb d_L_law_360 rfl (lv_at hl 1 rfl) ?_
  refine lv_aload_n hx hb d_L_law_361 rfl (lv_at hl 0 rfl) ?_
  refine lv_iload_n hx hb d_L_law_362 rfl (lv_at hl 3 rfl) ?_
  refine lv_iconst (v := (nI 1)) hx hb d_L_law_363 (by decide) ?_
  refine lv_iadd hx hb d_L_law_364 ?_
  refine ea_ti (y := (nI (i + 1))) (nI_add _ _) ?_
  refine ea_sld hx hb hX hbl hbA hS (i + 1) rfl (by omega) (by omega) d_L_law_365 ?_
  refine ea_callR (As := [.int ((xs (i + 1)))]) (rest := []) (r := (sp_aging σ (xs (i + 1)))) ⟨hx, hb, hml, hown, hts⟩ hK hPX rfl rfl (c_X_aging l D qx cI cJ w mk hcx σ hok u hRX (xs (i + 1))) ⟨kl_L_57, kn_X_aging, ks_X_aging, ki_X, kc_X_aging⟩ kd_X_aging (by decide) ⟨Nat.le_of_ble_eq_true rfl, Nat.le_of_ble_eq_true rfl⟩ hl.1 rfl (Nat.le_of_ble_eq_true rfl) d_L_law_366 ⟨Nat.le_of_ble_eq_true rfl, Nat.le_of_ble_eq_true rfl⟩ ?_
  refine lv_aload_n hx hb d_L_law_369 rfl (lv_at hl 2 rfl) ?_
  refine lv_aload_n hx hb d_L_law_370 rfl (lv_at hl 0 rfl) ?_
  refine lv_iload_n hx hb d_L_law_371 rfl (lv_at hl 3 rfl) ?_
  refine lv_iconst (v := (nI 1)) hx hb d_L_law_372 (by decide) ?_
  refine lv_iadd hx hb d_L_law_373 ?_
  refine ea_ti (y := (nI (i + 1))) (nI_add _ _) ?_
  refine ea_sld hx hb hX hbl hbA hS (i + 1) rfl (by omega) (by omega) d_L_law_374 ?_
  refine ea_callR (As := [.int ((xs (i + 1)))]) (rest := [.int ((sp_aging σ (xs (i + 1))))]) (r := (sp_aging σ (xs (i + 1)))) ⟨hx, hb, hml, hown, hts⟩ hK hPM rfl rfl (c_M_aging l D qm cI cJ w hw σ hok v hRM (xs (i + 1))) ⟨kl_L_60, kn_M_aging, ks_M_aging, ki_M, kc_M_aging⟩ kd_M_aging (by decide) ⟨Nat.le_of_ble_eq_true rfl, Nat.le_of_ble_eq_true rfl⟩ hl.1 rfl (Nat.le_of_ble_eq_true rfl) d_L_law_375 ⟨Nat.le_of_ble_eq_true rfl, Nat.le_of_ble_eq_true rfl⟩ ?_
  refine lv_icmp_eq (tgt := 551) hx hb d_L_law_378 (by decide) (fun _ => ?_) (fun c9 => absurd (rfl) c9)
  exact hnext σ u v H locs ls ⟨hok, hRX, hRM, hPX, hPM, hS⟩ hl
set_option maxHeartbeats 1000000 in
set_option maxRecDepth 100000 in
theorem law_c9 {p : Program} {l : Launch} {e : Env} {s : State} {m : MethodId} {below : List Frame} {meth : Method} {c : Code} {D : va_G} {cI cJ : ClassId} {w : Nat} {mk : Int64} {qx qm : Nat → Nat} {b L : Nat} {xs : Nat → Int32} (hL : L ≤ 2561) (C0 : lw_At p s m meth c b L xs) (hC : ea_Fix s D cI cJ w mk qx qm) {i : Nat} (hi : i + 5 ≤ L) (hnext : ∀ (σ : ea_S) (u : ea_XS) (v : ea_MS) (H : Heap) (locs : List Loc) (ls : Array Slot), ea_St s D cI cJ w mk qx qm σ u v H locs → lv_has ls 4 [(0, .ref b), (1, .ref (qx 0)), (2, .ref (qm 0)), (3, .int (nI i))] → W p l e room_1 s m #[Value.ref b] below meth c H locs 15 588 (lw_Z below #[Value.ref b] s) (F0 m 551 ls [])) (σ : ea_S) (u : ea_XS) (v : ea_MS) (H : Heap) (locs : List Loc) (ls : Array Slot) (hSt : ea_St s D cI cJ w mk qx qm σ u v H locs) (hl : lv_has ls 4 [(0, .ref b), (1, .ref (qx 0)), (2, .ref (qm 0)), (3, .int (nI i))]) : W p l e room_1 s m #[Value.ref b] below meth c H locs 15 588 (lw_Z below #[Value.ref b] s) (F0 m 383 ls []) := by
  obtain ⟨hx, hb, hr, hml, hown, hts0, hX, hbl, hlocks, hgv⟩ := C0
  have hts := ea_hts hts0
  have hbA : ¬ (fun q : Nat => s.heap.size ≤ q) b := Nat.not_le.mpr hbl
  obtain ⟨hcx, hqx, hqm, hdis, hax, ham, hK⟩ := hC
  have hw : 4 ≤ w ∧ w ≤ 64 := ⟨hcx.1, hcx.2.1⟩
  obtain ⟨hok, hRX, hRM, hPX, hPM, hS⟩ := hSt
  refine lv_aload_n hx hb d_L_law_383 rfl (lv_at hl 1 rfl) ?_
  refine lv_aload_n hx hb d_L_law_384 rfl (lv_at hl 0 rfl) ?_
  refine lv_iload_n hx hb d_L_law_385 rfl (lv_at hl 3 rfl) ?_
  refine lv_iconst (v := (nI 1)) hx hb d_L_law_386 (by decide) ?_
  refine lv_iadd hx hb d_L_law_387 ?_
  refine ea_ti (y := (nI (i + 1))) (nI_add _ _) ?_
  refine ea_sld hx hb hX hbl hbA hS (i + 1) rfl (by omega) (by omega) d_L_law_388 ?_
  refine lv_aload_n hx hb d_L_law_389 rfl (lv_at hl 0 rfl) ?_
  refine lv_iload_n hx hb d_L_law_390 rfl (lv_at hl 3 rfl) ?_
  refine lv_iconst (v := (nI 2)) hx hb d_L_law_391 (by decide) ?_
  refine lv_iadd hx hb d_L_law_392 ?_
  refine ea_ti (y := (nI (i + 2))) (nI_add _ _) ?_
  refine ea_sld hx hb hX hbl hbA hS (i + 2) rfl (by omega) (by omega) d_L_law_393 ?_
  refine ea_callR (As := [.int ((xs (i + 1))), .int ((xs (i + 2)))]) (rest := []) (r := (sp_count σ (xs (i + 1)) (xs (i + 2)))) ⟨hx, hb, hml, hown, hts⟩ hK hPX rfl rfl (c_X_count l D qx cI cJ w mk hcx σ hok u hRX (xs (i + 1)) (xs (i + 2))) ⟨kl_L_61, kn_X_count, ks_X_count, ki_X, kc_X_count⟩ kd_X_count (by decide) ⟨Nat.le_of_ble_eq_true rfl, Nat.le_of_ble_eq_true rfl⟩ hl.1 rfl (Nat.le_of_ble_eq_true rfl) d_L_law_394 ⟨Nat.le_of_ble_eq_true rfl, Nat.le_of_ble_eq_true rfl⟩ ?_
  refine lv_aload_n hx hb d_L_law_397 rfl (lv_at hl 2 rfl) ?_
  refine lv_aload_n hx hb d_L_law_398 rfl (lv_at hl 0 rfl) ?_
  refine lv_iload_n hx hb d_L_law_399 rfl (lv_at hl 3 rfl) ?_
  refine lv_iconst (v := (nI 1)) hx hb d_L_law_400 (by decide) ?_
  refine lv_iadd hx hb d_L_law_401 ?_
  refine ea_ti (y := (nI (i + 1))) (nI_add _ _) ?_
  refine ea_sld hx hb hX hbl hbA hS (i + 1) rfl (by omega) (by omega) d_L_law_402 ?_
  refine lv_aload_n hx hb d_L_law_403 rfl (lv_at hl 0 rfl) ?_
  refine lv_iload_n hx hb d_L_law_404 rfl (lv_at hl 3 rfl) ?_
  refine lv_iconst (v := (nI 2)) hx hb d_L_law_405 (by decide) ?_
  refine lv_iadd hx hb d_L_law_406 ?_
  refine ea_ti (y := (nI (i + 2))) (nI_add _ _) ?_
  refine ea_sld hx hb hX hbl hbA hS (i + 2) rfl (by omega) (by omega) d_L_law_407 ?_
  refine ea_callR (As := [.int ((xs (i + 1))), .int ((xs (i + 2)))]) (rest := [.int ((sp_count σ (xs (i + 1)) (xs (i + 2))))]) (r := (sp_count σ (xs (i + 1)) (xs (i + 2)))) ⟨hx, hb, hml, hown, hts⟩ hK hPM rfl rfl (c_M_count l D qm cI cJ w hw σ hok v hRM (xs (i + 1)) (xs (i + 2))) ⟨kl_L_65, kn_M_count, ks_M_count, ki_M, kc_M_count⟩ kd_M_count (by decide) ⟨Nat.le_of_ble_eq_true rfl, Nat.le_of_ble_eq_true rfl⟩ hl.1 rfl (Nat.le_of_ble_eq_true rfl) d_L_law_408 ⟨Nat.le_of_ble_eq_true rfl, Nat.le_of_ble_eq_true rfl⟩ ?_
  refine lv_icmp_eq (tgt := 551) hx hb d_L_law_411 (by decide) (fun _ => ?_) (fun c9 => absurd (rfl) c9)
  exact hnext σ u v H locs ls ⟨hok, hRX, hRM, hPX, hPM, hS⟩ hl
set_option maxHeartbeats 1000000 in
set_option maxRecDepth 100000 in
theorem law_c10 {p : Program} {l : Launch} {e : Env} {s : State} {m : MethodId} {below : List Frame} {meth : Method} {c : Code} {D : va_G} {cI cJ : ClassId} {w : Nat} {mk : Int64} {qx qm : Nat → Nat} {b L : Nat} {xs : Nat → Int32} (hL : L ≤ 2561) (C0 : lw_At p s m meth c b L xs) (hC : ea_Fix s D cI cJ w mk qx qm) {i : Nat} (hi : i + 5 ≤ L) (hnext : ∀ (σ : ea_S) (u : ea_XS) (v : ea_MS) (H : Heap) (locs : List Loc) (ls : Array Slot), ea_St s D cI cJ w mk qx qm σ u v H locs → lv_has ls 4 [(0, .ref b), (1, .ref (qx 0)), (2, .ref (qm 0)), (3, .int (nI i))] → W p l e room_1 s m #[Value.ref b] below meth c H locs 15 588 (lw_Z below #[Value.ref b] s) (F0 m 551 ls [])) (σ : ea_S) (u : ea_XS) (v : ea_MS) (H : Heap) (locs : List Loc) (ls : Array Slot) (hSt : ea_St s D cI cJ w mk qx qm σ u v H locs) (hl : lv_has ls 4 [(0, .ref b), (1, .ref (qx 0)), (2, .ref (qm 0)), (3, .int (nI i))]) : W p l e room_1 s m #[Value.ref b] below meth c H locs 15 588 (lw_Z below #[Value.ref b] s) (F0 m 416 ls []) := by
  obtain ⟨hx, hb, hr, hml, hown, hts0, hX, hbl, hlocks, hgv⟩ := C0
  have hts := ea_hts hts0
  have hbA : ¬ (fun q : Nat => s.heap.size ≤ q) b := Nat.not_le.mpr hbl
  obtain ⟨hcx, hqx, hqm, hdis, hax, ham, hK⟩ := hC
  have hw : 4 ≤ w ∧ w ≤ 64 := ⟨hcx.1, hcx.2.1⟩
  obtain ⟨hok, hRX, hRM, hPX, hPM, hS⟩ := hSt
  refine lv_aload_n hx hb d_L_law_416 rfl (lv_at hl 1 rfl) ?_
  refine lv_aload_n hx hb d_L_law_417 rfl (lv_at hl 0 rfl) ?_
  refine lv_iload_n hx hb d_L_law_418 rfl (lv_at hl 3 rfl) ?_
  refine lv_iconst (v := (nI 1)) hx hb d_L_law_419 (by decide) ?_
  refine lv_iadd hx hb d_L_law_420 ?_
  refine ea_ti (y := (nI (i + 1))) (nI_add _ _) ?_
  refine ea_sld hx hb hX hbl hbA hS (i + 1) rfl (by omega) (by omega) d_L_law_421 ?_
  refine lv_aload_n hx hb d_L_law_422 rfl (lv_at hl 0 rfl) ?_
  refine lv_iload_n hx hb d_L_law_423 rfl (lv_at hl 3 rfl) ?_
  refine lv_iconst (v := (nI 2)) hx hb d_L_law_424 (by decide) ?_
  refine lv_iadd hx hb d_L_law_425 ?_
  refine ea_ti (y := (nI (i + 2))) (nI_add _ _) ?_
  refine ea_sld hx hb hX hbl hbA hS (i + 2) rfl (by omega) (by omega) d_L_law_426 ?_
  refine ea_callR (As := [.int ((xs (i + 1))), .int ((xs (i + 2)))]) (rest := []) (r := (sp_numberFor w σ (xs (i + 1)) (xs (i + 2)))) ⟨hx, hb, hml, hown, hts⟩ hK hPX rfl rfl (c_X_numberFor l D qx cI cJ w mk hcx σ hok u hRX (xs (i + 1)) (xs (i + 2))) ⟨kl_L_66, kn_X_numberFor, ks_X_numberFor, ki_X, kc_X_numberFor⟩ kd_X_numberFor (by decide) ⟨Nat.le_of_ble_eq_true rfl, Nat.le_of_ble_eq_true rfl⟩ hl.1 rfl (Nat.le_of_ble_eq_true rfl) d_L_law_427 ⟨Nat.le_of_ble_eq_true rfl, Nat.le_of_ble_eq_true rfl⟩ ?_
  refine lv_aload_n hx hb d_L_law_430 rfl (lv_at hl 2 rfl) ?_
  refine lv_aload_n hx hb d_L_law_431 rfl (lv_at hl 0 rfl) ?_
  refine lv_iload_n hx hb d_L_law_432 rfl (lv_at hl 3 rfl) ?_
  refine lv_iconst (v := (nI 1)) hx hb d_L_law_433 (by decide) ?_
  refine lv_iadd hx hb d_L_law_434 ?_
  refine ea_ti (y := (nI (i + 1))) (nI_add _ _) ?_
  refine ea_sld hx hb hX hbl hbA hS (i + 1) rfl (by omega) (by omega) d_L_law_435 ?_
  refine lv_aload_n hx hb d_L_law_436 rfl (lv_at hl 0 rfl) ?_
  refine lv_iload_n hx hb d_L_law_437 rfl (lv_at hl 3 rfl) ?_
  refine lv_iconst (v := (nI 2)) hx hb d_L_law_438 (by decide) ?_
  refine lv_iadd hx hb d_L_law_439 ?_
  refine ea_ti (y := (nI (i + 2))) (nI_add _ _) ?_
  refine ea_sld hx hb hX hbl hbA hS (i + 2) rfl (by omega) (by omega) d_L_law_440 ?_
  refine ea_callR (As := [.int ((xs (i + 1))), .int ((xs (i + 2)))]) (rest := [.int ((sp_numberFor w σ (xs (i + 1)) (xs (i + 2))))]) (r := (sp_numberFor w σ (xs (i + 1)) (xs (i + 2)))) ⟨hx, hb, hml, hown, hts⟩ hK hPM rfl rfl (c_M_numberFor l D qm cI cJ w hw σ hok v hRM (xs (i + 1)) (xs (i + 2))) ⟨kl_L_69, kn_M_numberFor, ks_M_numberFor, ki_M, kc_M_numberFor⟩ kd_M_numberFor (by decide) ⟨Nat.le_of_ble_eq_true rfl, Nat.le_of_ble_eq_true rfl⟩ hl.1 rfl (Nat.le_of_ble_eq_true rfl) d_L_law_441 ⟨Nat.le_of_ble_eq_true rfl, Nat.le_of_ble_eq_true rfl⟩ ?_
  refine lv_icmp_eq (tgt := 551) hx hb d_L_law_444 (by decide) (fun _ => ?_) (fun c9 => absurd (rfl) c9)
  exact hnext σ u v H locs ls ⟨hok, hRX, hRM, hPX, hPM, hS⟩ hl
set_option maxHeartbeats 1000000 in
set_option maxRecDepth 100000 in
theorem law_c11 {p : Program} {l : Launch} {e : Env} {s : State} {m : MethodId} {below : List Frame} {meth : Method} {c : Code} {D : va_G} {cI cJ : ClassId} {w : Nat} {mk : Int64} {qx qm : Nat → Nat} {b L : Nat} {xs : Nat → Int32} (hL : L ≤ 2561) (C0 : lw_At p s m meth c b L xs) (hC : ea_Fix s D cI cJ w mk qx qm) {i : Nat} (hi : i + 5 ≤ L) (hnext : ∀ (σ : ea_S) (u : ea_XS) (v : ea_MS) (H : Heap) (locs : List Loc) (ls : Array Slot), ea_St s D cI cJ w mk qx qm σ u v H locs → lv_has ls 4 [(0, .ref b), (1, .ref (qx 0)), (2, .ref (qm 0)), (3, .int (nI i))] → W p l e room_1 s m #[Value.ref b] below meth c H locs 15 588 (lw_Z below #[Value.ref b] s) (F0 m 551 ls [])) (σ : ea_S) (u : ea_XS) (v : ea_MS) (H : Heap) (locs : List Loc) (ls : Array Slot) (hSt : ea_St s D cI cJ w mk qx qm σ u v H locs) (hl : lv_has ls 4 [(0, .ref b), (1, .ref (qx 0)), (2, .ref (qm 0)), (3, .int (nI i))]) : W p l e room_1 s m #[Value.ref b] below meth c H locs 15 588 (lw_Z below #[Value.ref b] s) (F0 m 449 ls []) := by
  obtain ⟨hx, hb, hr, hml, hown, hts0, hX, hbl, hlocks, hgv⟩ := C0
  have hts := ea_hts hts0
  have hbA : ¬ (fun q : Nat => s.heap.size ≤ q) b := Nat.not_le.mpr hbl
  obtain ⟨hcx, hqx, hqm, hdis, hax, ham, hK⟩ := hC
  have hw : 4 ≤ w ∧ w ≤ 64 := ⟨hcx.1, hcx.2.1⟩
  obtain ⟨hok, hRX, hRM, hPX, hPM, hS⟩ := hSt
  refine lv_aload_n hx hb d_L_law_449 rfl (lv_at hl 1 rfl) ?_
  refine lv_aload_n hx hb d_L_law_450 rfl (lv_at hl 0 rfl) ?_
  refine lv_iload_n hx hb d_L_law_451 rfl (lv_at hl 3 rfl) ?_
  refine lv_iconst (v := (nI 1)) hx hb d_L_law_452 (by decide) ?_
  refine lv_iadd hx hb d_L_law_453 ?_
  refine ea_ti (y := (nI (i + 1))) (nI_add _ _) ?_
  refine ea_sld hx hb hX hbl hbA hS (i + 1) rfl (by omega) (by omega) d_L_law_454 ?_
  refine lv_aload_n hx hb d_L_law_455 rfl (lv_at hl 0 rfl) ?_
  refine lv_iload_n hx hb d_L_law_456 rfl (lv_at hl 3 rfl) ?_
  refine lv_iconst (v := (nI 2)) hx hb d_L_law_457 (by decide) ?_
  refine lv_iadd hx hb d_L_law_458 ?_
  refine ea_ti (y := (nI (i + 2))) (nI_add _ _) ?_
  refine ea_sld hx hb hX hbl hbA hS (i + 2) rfl (by omega) (by omega) d_L_law_459 ?_
  refine ea_callR (As := [.int ((xs (i + 1))), .int ((xs (i + 2)))]) (rest := []) (r := (sp_has σ (xs (i + 1)) (xs (i + 2)))) ⟨hx, hb, hml, hown, hts⟩ hK hPX rfl rfl (c_X_has l D qx cI cJ w mk hcx σ hok u hRX (xs (i + 1)) (xs (i + 2))) ⟨kl_L_70, kn_X_has, ks_X_has, ki_X, kc_X_has⟩ kd_X_has (by decide) ⟨Nat.le_of_ble_eq_true rfl, Nat.le_of_ble_eq_true rfl⟩ hl.1 rfl (Nat.le_of_ble_eq_true rfl) d_L_law_460 ⟨Nat.le_of_ble_eq_true rfl, Nat.le_of_ble_eq_true rfl⟩ ?_
  refine lv_aload_n hx hb d_L_law_463 rfl (lv_at hl 2 rfl) ?_
  refine lv_aload_n hx hb d_L_law_464 rfl (lv_at hl 0 rfl) ?_
  refine lv_iload_n hx hb d_L_law_465 rfl (lv_at hl 3 rfl) ?_
  refine lv_iconst (v := (nI 1)) hx hb d_L_law_466 (by decide) ?_
  refine lv_iadd hx hb d_L_law_467 ?_
  refine ea_ti (y := (nI (i + 1))) (nI_add _ _) ?_
  refine ea_sld hx hb hX hbl hbA hS (i + 1) rfl (by omega) (by omega) d_L_law_468 ?_
  refine lv_aload_n hx hb d_L_law_469 rfl (lv_at hl 0 rfl) ?_
  refine lv_iload_n hx hb d_L_law_470 rfl (lv_at hl 3 rfl) ?_
  refine lv_iconst (v := (nI 2)) hx hb d_L_law_471 (by decide) ?_
  refine lv_iadd hx hb d_L_law_472 ?_
  refine ea_ti (y := (nI (i + 2))) (nI_add _ _) ?_
  refine ea_sld hx hb hX hbl hbA hS (i + 2) rfl (by omega) (by omega) d_L_law_473 ?_
  refine ea_callR (As := [.int ((xs (i + 1))), .int ((xs (i + 2)))]) (rest := [.int ((sp_has σ (xs (i + 1)) (xs (i + 2))))]) (r := (sp_has σ (xs (i + 1)) (xs (i + 2)))) ⟨hx, hb, hml, hown, hts⟩ hK hPM rfl rfl (c_M_has l D qm cI cJ w hw σ hok v hRM (xs (i + 1)) (xs (i + 2))) ⟨kl_L_73, kn_M_has, ks_M_has, ki_M, kc_M_has⟩ kd_M_has (by decide) ⟨Nat.le_of_ble_eq_true rfl, Nat.le_of_ble_eq_true rfl⟩ hl.1 rfl (Nat.le_of_ble_eq_true rfl) d_L_law_474 ⟨Nat.le_of_ble_eq_true rfl, Nat.le_of_ble_eq_true rfl⟩ ?_
  refine lv_icmp_eq (tgt := 551) hx hb d_L_law_477 (by decide) (fun _ => ?_) (fun c9 => absurd (rfl) c9)
  exact hnext σ u v H locs ls ⟨hok, hRX, hRM, hPX, hPM, hS⟩ hl
set_option maxHeartbeats 1000000 in
set_option maxRecDepth 100000 in
theorem law_c12 {p : Program} {l : Launch} {e : Env} {s : State} {m : MethodId} {below : List Frame} {meth : Method} {c : Code} {D : va_G} {cI cJ : ClassId} {w : Nat} {mk : Int64} {qx qm : Nat → Nat} {b L : Nat} {xs : Nat → Int32} (hL : L ≤ 2561) (C0 : lw_At p s m meth c b L xs) (hC : ea_Fix s D cI cJ w mk qx qm) {i : Nat} (hi : i + 5 ≤ L) (hnext : ∀ (σ : ea_S) (u : ea_XS) (v : ea_MS) (H : Heap) (locs : List Loc) (ls : Array Slot), ea_St s D cI cJ w mk qx qm σ u v H locs → lv_has ls 4 [(0, .ref b), (1, .ref (qx 0)), (2, .ref (qm 0)), (3, .int (nI i))] → W p l e room_1 s m #[Value.ref b] below meth c H locs 15 588 (lw_Z below #[Value.ref b] s) (F0 m 551 ls [])) (σ : ea_S) (u : ea_XS) (v : ea_MS) (H : Heap) (locs : List Loc) (ls : Array Slot) (hSt : ea_St s D cI cJ w mk qx qm σ u v H locs) (hl : lv_has ls 4 [(0, .ref b), (1, .ref (qx 0)), (2, .ref (qm 0)), (3, .int (nI i))]) : W p l e room_1 s m #[Value.ref b] below meth c H locs 15 588 (lw_Z below #[Value.ref b] s) (F0 m 482 ls []) := by
  obtain ⟨hx, hb, hr, hml, hown, hts0, hX, hbl, hlocks, hgv⟩ := C0
  have hts := ea_hts hts0
  have hbA : ¬ (fun q : Nat => s.heap.size ≤ q) b := Nat.not_le.mpr hbl
  obtain ⟨hcx, hqx, hqm, hdis, hax, ham, hK⟩ := hC
  have hw : 4 ≤ w ∧ w ≤ 64 := ⟨hcx.1, hcx.2.1⟩
  obtain ⟨hok, hRX, hRM, hPX, hPM, hS⟩ := hSt
  refine lv_aload_n hx hb d_L_law_482 rfl (lv_at hl 1 rfl) ?_
  refine lv_aload_n hx hb d_L_law_483 rfl (lv_at hl 0 rfl) ?_
  refine lv_iload_n hx hb d_L_law_484 rfl (lv_at hl 3 rfl) ?_
  refine lv_iconst (v := (nI 1)) hx hb d_L_law_485 (by decide) ?_
  refine lv_iadd hx hb d_L_law_486 ?_
  refine ea_ti (y := (nI (i + 1))) (nI_add _ _) ?_
  refine ea_sld hx hb hX hbl hbA hS (i + 1) rfl (by omega) (by omega) d_L_law_487 ?_
  refine ea_callR (As := [.int ((xs (i + 1)))]) (rest := []) (r := (sp_inWindow w σ (xs (i + 1)))) ⟨hx, hb, hml, hown, hts⟩ hK hPX rfl rfl (c_X_inWindow l D qx cI cJ w mk hcx σ hok u hRX (xs (i + 1))) ⟨kl_L_74, kn_X_inWindow, ks_X_inWindow, ki_X, kc_X_inWindow⟩ kd_X_inWindow (by decide) ⟨Nat.le_of_ble_eq_true rfl, Nat.le_of_ble_eq_true rfl⟩ hl.1 rfl (Nat.le_of_ble_eq_true rfl) d_L_law_488 ⟨Nat.le_of_ble_eq_true rfl, Nat.le_of_ble_eq_true rfl⟩ ?_
  refine lv_aload_n hx hb d_L_law_491 rfl (lv_at hl 2 rfl) ?_
  refine lv_aload_n hx hb d_L_law_492 rfl (lv_at hl 0 rfl) ?_
  refine lv_iload_n hx hb d_L_law_493 rfl (lv_at hl 3 rfl) ?_
  refine lv_iconst (v := (nI 1)) hx hb d_L_law_494 (by decide) ?_
  refine lv_iadd hx hb d_L_law_495 ?_
  refine ea_ti (y := (nI (i + 1))) (nI_add _ _) ?_
  refine ea_sld hx hb hX hbl hbA hS (i + 1) rfl (by omega) (by omega) d_L_law_496 ?_
  refine ea_callR (As := [.int ((xs (i + 1)))]) (rest := [.int ((sp_inWindow w σ (xs (i + 1))))]) (r := (sp_inWindow w σ (xs (i + 1)))) ⟨hx, hb, hml, hown, hts⟩ hK hPM rfl rfl (c_M_inWindow l D qm cI cJ w hw σ hok v hRM (xs (i + 1))) ⟨kl_L_77, kn_M_inWindow, ks_M_inWindow, ki_M, kc_M_inWindow⟩ kd_M_inWindow (by decide) ⟨Nat.le_of_ble_eq_true rfl, Nat.le_of_ble_eq_true rfl⟩ hl.1 rfl (Nat.le_of_ble_eq_true rfl) d_L_law_497 ⟨Nat.le_of_ble_eq_true rfl, Nat.le_of_ble_eq_true rfl⟩ ?_
  refine lv_icmp_eq (tgt := 551) hx hb d_L_law_500 (by decide) (fun _ => ?_) (fun c9 => absurd (rfl) c9)
  exact hnext σ u v H locs ls ⟨hok, hRX, hRM, hPX, hPM, hS⟩ hl
set_option maxHeartbeats 1000000 in
set_option maxRecDepth 100000 in
theorem law_c13 {p : Program} {l : Launch} {e : Env} {s : State} {m : MethodId} {below : List Frame} {meth : Method} {c : Code} {D : va_G} {cI cJ : ClassId} {w : Nat} {mk : Int64} {qx qm : Nat → Nat} {b L : Nat} {xs : Nat → Int32} (hL : L ≤ 2561) (C0 : lw_At p s m meth c b L xs) (hC : ea_Fix s D cI cJ w mk qx qm) {i : Nat} (hi : i + 5 ≤ L) (hnext : ∀ (σ : ea_S) (u : ea_XS) (v : ea_MS) (H : Heap) (locs : List Loc) (ls : Array Slot), ea_St s D cI cJ w mk qx qm σ u v H locs → lv_has ls 4 [(0, .ref b), (1, .ref (qx 0)), (2, .ref (qm 0)), (3, .int (nI i))] → W p l e room_1 s m #[Value.ref b] below meth c H locs 15 588 (lw_Z below #[Value.ref b] s) (F0 m 551 ls [])) (σ : ea_S) (u : ea_XS) (v : ea_MS) (H : Heap) (locs : List Loc) (ls : Array Slot) (hSt : ea_St s D cI cJ w mk qx qm σ u v H locs) (hl : lv_has ls 4 [(0, .ref b), (1, .ref (qx 0)), (2, .ref (qm 0)), (3, .int (nI i))]) : W p l e room_1 s m #[Value.ref b] below meth c H locs 15 588 (lw_Z below #[Value.ref b] s) (F0 m 505 ls []) := by
  obtain ⟨hx, hb, hr, hml, hown, hts0, hX, hbl, hlocks, hgv⟩ := C0
  have hts := ea_hts hts0
  have hbA : ¬ (fun q : Nat => s.heap.size ≤ q) b := Nat.not_le.mpr hbl
  obtain ⟨hcx, hqx, hqm, hdis, hax, ham, hK⟩ := hC
  have hw : 4 ≤ w ∧ w ≤ 64 := ⟨hcx.1, hcx.2.1⟩
  obtain ⟨hok, hRX, hRM, hPX, hPM, hS⟩ := hSt
  refine lv_aload_n hx hb d_L_law_505 rfl (lv_at hl 1 rfl) ?_
  refine lv_aload_n hx hb d_L_law_506 rfl (lv_at hl 0 rfl) ?_
  refine lv_iload_n hx hb d_L_law_507 rfl (lv_at hl 3 rfl) ?_
  refine lv_iconst (v := (nI 1)) hx hb d_L_law_508 (by decide) ?_
  refine lv_iadd hx hb d_L_law_509 ?_
  refine ea_ti (y := (nI (i + 1))) (nI_add _ _) ?_
  refine ea_sld hx hb hX hbl hbA hS (i + 1) rfl (by omega) (by omega) d_L_law_510 ?_
  refine ea_callR (As := [.int ((xs (i + 1)))]) (rest := []) (r := (sp_lost w σ (xs (i + 1)))) ⟨hx, hb, hml, hown, hts⟩ hK hPX rfl rfl (c_X_lost l D qx cI cJ w mk hcx σ hok u hRX (xs (i + 1))) ⟨kl_L_78, kn_X_lost, ks_X_lost, ki_X, kc_X_lost⟩ kd_X_lost (by decide) ⟨Nat.le_of_ble_eq_true rfl, Nat.le_of_ble_eq_true rfl⟩ hl.1 rfl (Nat.le_of_ble_eq_true rfl) d_L_law_511 ⟨Nat.le_of_ble_eq_true rfl, Nat.le_of_ble_eq_true rfl⟩ ?_
  refine lv_aload_n hx hb d_L_law_514 rfl (lv_at hl 2 rfl) ?_
  refine lv_aload_n hx hb d_L_law_515 rfl (lv_at hl 0 rfl) ?_
  refine lv_iload_n hx hb d_L_law_516 rfl (lv_at hl 3 rfl) ?_
  refine lv_iconst (v := (nI 1)) hx hb d_L_law_517 (by decide) ?_
  refine lv_iadd hx hb d_L_law_518 ?_
  refine ea_ti (y := (nI (i + 1))) (nI_add _ _) ?_
  refine ea_sld hx hb hX hbl hbA hS (i + 1) rfl (by omega) (by omega) d_L_law_519 ?_
  refine ea_callR (As := [.int ((xs (i + 1)))]) (rest := [.int ((sp_lost w σ (xs (i + 1))))]) (r := (sp_lost w σ (xs (i + 1)))) ⟨hx, hb, hml, hown, hts⟩ hK hPM rfl rfl (c_M_lost l D qm cI cJ w hw σ hok v hRM (xs (i + 1))) ⟨kl_L_81, kn_M_lost, ks_M_lost, ki_M, kc_M_lost⟩ kd_M_lost (by decide) ⟨Nat.le_of_ble_eq_true rfl, Nat.le_of_ble_eq_true rfl⟩ hl.1 rfl (Nat.le_of_ble_eq_true rfl) d_L_law_520 ⟨Nat.le_of_ble_eq_true rfl, Nat.le_of_ble_eq_true rfl⟩ ?_
  refine lv_icmp_eq (tgt := 551) hx hb d_L_law_523 (by decide) (fun _ => ?_) (fun c9 => absurd (rfl) c9)
  exact hnext σ u v H locs ls ⟨hok, hRX, hRM, hPX, hPM, hS⟩ hl
set_option maxHeartbeats 1000000 in
set_option maxRecDepth 100000 in
theorem law_c14 {p : Program} {l : Launch} {e : Env} {s : State} {m : MethodId} {below : List Frame} {meth : Method} {c : Code} {D : va_G} {cI cJ : ClassId} {w : Nat} {mk : Int64} {qx qm : Nat → Nat} {b L : Nat} {xs : Nat → Int32} (hL : L ≤ 2561) (C0 : lw_At p s m meth c b L xs) (hC : ea_Fix s D cI cJ w mk qx qm) {i : Nat} (hi : i + 5 ≤ L) (hnext : ∀ (σ : ea_S) (u : ea_XS) (v : ea_MS) (H : Heap) (locs : List Loc) (ls : Array Slot), ea_St s D cI cJ w mk qx qm σ u v H locs → lv_has ls 4 [(0, .ref b), (1, .ref (qx 0)), (2, .ref (qm 0)), (3, .int (nI i))] → W p l e room_1 s m #[Value.ref b] below meth c H locs 15 588 (lw_Z below #[Value.ref b] s) (F0 m 551 ls [])) (σ : ea_S) (u : ea_XS) (v : ea_MS) (H : Heap) (locs : List Loc) (ls : Array Slot) (hSt : ea_St s D cI cJ w mk qx qm σ u v H locs) (hl : lv_has ls 4 [(0, .ref b), (1, .ref (qx 0)), (2, .ref (qm 0)), (3, .int (nI i))]) : W p l e room_1 s m #[Value.ref b] below meth c H locs 15 588 (lw_Z below #[Value.ref b] s) (F0 m 528 ls []) := by
  obtain ⟨hx, hb, hr, hml, hown, hts0, hX, hbl, hlocks, hgv⟩ := C0
  have hts := ea_hts hts0
  have hbA : ¬ (fun q : Nat => s.heap.size ≤ q) b := Nat.not_le.mpr hbl
  obtain ⟨hcx, hqx, hqm, hdis, hax, ham, hK⟩ := hC
  have hw : 4 ≤ w ∧ w ≤ 64 := ⟨hcx.1, hcx.2.1⟩
  obtain ⟨hok, hRX, hRM, hPX, hPM, hS⟩ := hSt
  refine lv_aload_n hx hb d_L_law_528 rfl (lv_at hl 1 rfl) ?_
  refine lv_aload_n hx hb d_L_law_529 rfl (lv_at hl 0 rfl) ?_
  refine lv_iload_n hx hb d_L_law_530 rfl (lv_at hl 3 rfl) ?_
  refine lv_iconst (v := (nI 1)) hx hb d_L_law_531 (by decide) ?_
  refine lv_iadd hx hb d_L_law_532 ?_
  refine ea_ti (y := (nI (i + 1))) (nI_add _ _) ?_
  refine ea_sld hx hb hX hbl hbA hS (i + 1) rfl (by omega) (by omega) d_L_law_533 ?_
  refine ea_callR (As := [.int ((xs (i + 1)))]) (rest := []) (r := (sp_gap w σ (xs (i + 1)))) ⟨hx, hb, hml, hown, hts⟩ hK hPX rfl rfl (c_X_gap l D qx cI cJ w mk hcx σ hok u hRX (xs (i + 1))) ⟨kl_L_82, kn_X_gap, ks_X_gap, ki_X, kc_X_gap⟩ kd_X_gap (by decide) ⟨Nat.le_of_ble_eq_true rfl, Nat.le_of_ble_eq_true rfl⟩ hl.1 rfl (Nat.le_of_ble_eq_true rfl) d_L_law_534 ⟨Nat.le_of_ble_eq_true rfl, Nat.le_of_ble_eq_true rfl⟩ ?_
  refine lv_aload_n hx hb d_L_law_537 rfl (lv_at hl 2 rfl) ?_
  refine lv_aload_n hx hb d_L_law_538 rfl (lv_at hl 0 rfl) ?_
  refine lv_iload_n hx hb d_L_law_539 rfl (lv_at hl 3 rfl) ?_
  refine lv_iconst (v := (nI 1)) hx hb d_L_law_540 (by decide) ?_
  refine lv_iadd hx hb d_L_law_541 ?_
  refine ea_ti (y := (nI (i + 1))) (nI_add _ _) ?_
  refine ea_sld hx hb hX hbl hbA hS (i + 1) rfl (by omega) (by omega) d_L_law_542 ?_
  refine ea_callR (As := [.int ((xs (i + 1)))]) (rest := [.int ((sp_gap w σ (xs (i + 1))))]) (r := (sp_gap w σ (xs (i + 1)))) ⟨hx, hb, hml, hown, hts⟩ hK hPM rfl rfl (c_M_gap l D qm cI cJ w hw σ hok v hRM (xs (i + 1))) ⟨kl_L_85, kn_M_gap, ks_M_gap, ki_M, kc_M_gap⟩ kd_M_gap (by decide) ⟨Nat.le_of_ble_eq_true rfl, Nat.le_of_ble_eq_true rfl⟩ hl.1 rfl (Nat.le_of_ble_eq_true rfl) d_L_law_543 ⟨Nat.le_of_ble_eq_true rfl, Nat.le_of_ble_eq_true rfl⟩ ?_
  refine lv_icmp_eq (tgt := 551) hx hb d_L_law_546 (by decide) (fun _ => ?_) (fun c9 => absurd (rfl) c9)
  exact hnext σ u v H locs ls ⟨hok, hRX, hRM, hPX, hPM, hS⟩ hl
end
section
set_option maxHeartbeats 1000000 in
set_option maxRecDepth 100000 in
theorem law_loop {p : Program} {l : Launch} {e : Env} {s : State} {m : MethodId} {below : List Frame} {meth : Method} {c : Code} {D : va_G} {cI cJ : ClassId} {w : Nat} {mk : Int64} {qx qm : Nat → Nat} {b L : Nat} {xs : Nat → Int32} (hL : L ≤ 2561) (C0 : lw_At p s m meth c b L xs) (hC : ea_Fix s D cI cJ w mk qx qm) : ∀ (g i : Nat) (σ : ea_S) (u : ea_XS) (v : ea_MS) (H : Heap) (locs : List Loc) (ls : Array Slot), L ≤ i + 5 * g + 4 → i ≤ L + 1 → ea_St s D cI cJ w mk qx qm σ u v H locs → lv_has ls 4 [(0, .ref b), (1, .ref (qx 0)), (2, .ref (qm 0)), (3, .int (nI i))] → W p l e room_1 s m #[Value.ref b] below meth c H locs 15 588 (lw_Z below #[Value.ref b] s) (F0 m 28 ls []) := by
  obtain ⟨hx, hb, hr, hml, hown, hts0, hX, hbl, hlocks, hgv⟩ := id C0
  have hbA : ¬ (fun q : Nat => s.heap.size ≤ q) b := Nat.not_le.mpr hbl
  intro g
  induction g with
  | zero =>
    intro i σ u v H locs ls hg hi1 hSt hl
    have hS := hSt.2.2.2.2.2
    refine lv_iload_n hx hb d_L_law_28 rfl (lv_at hl 3 rfl) ?_
    refine lv_aload_n hx hb d_L_law_29 rfl (lv_at hl 0 rfl) ?_
    refine va_slen hx hb hX hbl hbA hS d_L_law_30 ?_
    refine ea_ti (y := nI L) rfl ?_
    refine lv_iconst (v := (nI 5)) hx hb d_L_law_31 (by decide) ?_
    refine lv_isub hx hb d_L_law_32 ?_
    refine ea_ti (y := ea_I ((L : Int) - ((5 : Nat) : Int))) ea_sub ?_
    refine lv_icmp_gt (tgt := 557) hx hb d_L_law_33 (by decide) (fun _ => ?_) (fun c9 => absurd ((ea_lt' ((L : Int) - ((5 : Nat) : Int)) (i : Int) rfl (ea_In i) (by omega) (by omega)).mpr (by omega)) c9)
    refine lv_iconst (v := 1) hx hb d_L_law_557 (by decide) ?_
    refine va_forget (fun q hq => hS.2.2 q hq) ?_
    exact lw_ret hx hb hr hlocks d_L_law_558
  | succ g ih =>
    intro i σ u v H locs ls hg hi1 hSt hl
    have hS := hSt.2.2.2.2.2
    refine lv_iload_n hx hb d_L_law_28 rfl (lv_at hl 3 rfl) ?_
    refine lv_aload_n hx hb d_L_law_29 rfl (lv_at hl 0 rfl) ?_
    refine va_slen hx hb hX hbl hbA hS d_L_law_30 ?_
    refine ea_ti (y := nI L) rfl ?_
    refine lv_iconst (v := (nI 5)) hx hb d_L_law_31 (by decide) ?_
    refine lv_isub hx hb d_L_law_32 ?_
    refine ea_ti (y := ea_I ((L : Int) - ((5 : Nat) : Int))) ea_sub ?_
    refine lv_icmp_gt (tgt := 557) hx hb d_L_law_33 (by decide) (fun c1 => ?_) (fun c1 => ?_)
    · refine lv_iconst (v := 1) hx hb d_L_law_557 (by decide) ?_
      refine va_forget (fun q hq => hS.2.2 q hq) ?_
      exact lw_ret hx hb hr hlocks d_L_law_558
    · have c1 := mt (ea_lt' ((L : Int) - ((5 : Nat) : Int)) (i : Int) rfl (ea_In i) (by omega) (by omega)).mpr c1
      have hi : i + 5 ≤ L := by omega
      have hnext : ∀ (σ : ea_S) (u : ea_XS) (v : ea_MS) (H : Heap) (locs : List Loc) (ls : Array Slot), ea_St s D cI cJ w mk qx qm σ u v H locs → lv_has ls 4 [(0, .ref b), (1, .ref (qx 0)), (2, .ref (qm 0)), (3, .int (nI i))] → W p l e room_1 s m #[Value.ref b] below meth c H locs 15 588 (lw_Z below #[Value.ref b] s) (F0 m 551 ls []) := by
        intro σ u v H locs ls hSt hl
        refine lv_iinc (v := nI (i + 5)) (lv' := [(3, .int (nI (i + 5))), (0, .ref b), (1, .ref (qx 0)), (2, .ref (qm 0))]) hx hb d_L_law_551 hl (k := 3) rfl (nI_add i 5) (by decide) rfl (fun ls hl => ?_)
        refine lv_goto (tgt := 28) hx hb d_L_law_554 (by decide) ?_
        exact ih (i + 5) σ u v H locs ls (by omega) (by omega) hSt (lv_sub hl [1, 2, 3, 0] rfl)
      refine lv_aload_n hx hb d_L_law_36 rfl (lv_at hl 0 rfl) ?_
      refine lv_iload_n hx hb d_L_law_37 rfl (lv_at hl 3 rfl) ?_
      refine ea_sld hx hb hX hbl hbA hS i rfl (by omega) (by omega) d_L_law_38 ?_
      refine lv_bipush (v := 15) hx hb d_L_law_39 (by decide) ?_
      refine lv_iand hx hb d_L_law_41 ?_
      obtain ⟨k, hk, ek⟩ := pk_andE (xs i) (m := 15) 4 (by decide)
      refine ea_ti ek ?_
      rcases (show k = 0 ∨ k = 1 ∨ k = 2 ∨ k = 3 ∨ k = 4 ∨ k = 5 ∨ k = 6 ∨ k = 7 ∨ k = 8 ∨ k = 9 ∨ k = 10 ∨ k = 11 ∨ k = 12 ∨ k = 13 ∨ k = 14 ∨ k = 15 by omega) with rfl | rfl | rfl | rfl | rfl | rfl | rfl | rfl | rfl | rfl | rfl | rfl | rfl | rfl | rfl | rfl
      · refine lv_tableIn (off := 74) (tgt := 116) hx hb d_L_law_42 (by decide) (by decide) (by decide) (by decide) ?_
        exact law_c0 hL C0 hC hi hnext σ u v H locs ls hSt hl
      · refine lv_tableIn (off := 87) (tgt := 129) hx hb d_L_law_42 (by decide) (by decide) (by decide) (by decide) ?_
        exact law_c1 hL C0 hC hi hnext σ u v H locs ls hSt hl
      · refine lv_tableIn (off := 130) (tgt := 172) hx hb d_L_law_42 (by decide) (by decide) (by decide) (by decide) ?_
        exact law_c2 hL C0 hC hi hnext σ u v H locs ls hSt hl
      · refine lv_tableIn (off := 183) (tgt := 225) hx hb d_L_law_42 (by decide) (by decide) (by decide) (by decide) ?_
        exact law_c3 hL C0 hC hi hnext σ u v H locs ls hSt hl
      · refine lv_tableIn (off := 206) (tgt := 248) hx hb d_L_law_42 (by decide) (by decide) (by decide) (by decide) ?_
        exact law_c4 hL C0 hC hi hnext σ u v H locs ls hSt hl
      · refine lv_tableIn (off := 249) (tgt := 291) hx hb d_L_law_42 (by decide) (by decide) (by decide) (by decide) ?_
        exact law_c5 hL C0 hC hi hnext σ u v H locs ls hSt hl
      · refine lv_tableIn (off := 272) (tgt := 314) hx hb d_L_law_42 (by decide) (by decide) (by decide) (by decide) ?_
        exact law_c6 hL C0 hC hi hnext σ u v H locs ls hSt hl
      · refine lv_tableIn (off := 295) (tgt := 337) hx hb d_L_law_42 (by decide) (by decide) (by decide) (by decide) ?_
        exact law_c7 hL C0 hC hi hnext σ u v H locs ls hSt hl
      · refine lv_tableIn (off := 318) (tgt := 360) hx hb d_L_law_42 (by decide) (by decide) (by decide) (by decide) ?_
        exact law_c8 hL C0 hC hi hnext σ u v H locs ls hSt hl
      · refine lv_tableIn (off := 341) (tgt := 383) hx hb d_L_law_42 (by decide) (by decide) (by decide) (by decide) ?_
        exact law_c9 hL C0 hC hi hnext σ u v H locs ls hSt hl
      · refine lv_tableIn (off := 374) (tgt := 416) hx hb d_L_law_42 (by decide) (by decide) (by decide) (by decide) ?_
        exact law_c10 hL C0 hC hi hnext σ u v H locs ls hSt hl
      · refine lv_tableIn (off := 407) (tgt := 449) hx hb d_L_law_42 (by decide) (by decide) (by decide) (by decide) ?_
        exact law_c11 hL C0 hC hi hnext σ u v H locs ls hSt hl
      · refine lv_tableIn (off := 440) (tgt := 482) hx hb d_L_law_42 (by decide) (by decide) (by decide) (by decide) ?_
        exact law_c12 hL C0 hC hi hnext σ u v H locs ls hSt hl
      · refine lv_tableIn (off := 463) (tgt := 505) hx hb d_L_law_42 (by decide) (by decide) (by decide) (by decide) ?_
        exact law_c13 hL C0 hC hi hnext σ u v H locs ls hSt hl
      · refine lv_tableIn (off := 486) (tgt := 528) hx hb d_L_law_42 (by decide) (by decide) (by decide) (by decide) ?_
        exact law_c14 hL C0 hC hi hnext σ u v H locs ls hSt hl
      · refine lv_tableOut (tgt := 551) hx hb d_L_law_42 (by decide) (by decide) ?_
        exact hnext σ u v H locs ls hSt hl
theorem ea_arr {args : Array Value} {s : State} {ty : FieldType} (hnob : ∀ C, ty ≠ .object C) (h : (Cond.arrayClass ty).before args s = true) : ∃ cA : ClassId, ArrOfT s cA ty ∧ va_RA s cA ty := by
  obtain ⟨cA, kA, comp, h1, h2, h3⟩ := Cond.arrayClass_spec h
  refine ⟨cA, fun n z => ⟨fun k h => (by cases h), kA, h2, comp, h3⟩, ?_⟩
  cases ty with
  | object C => exact absurd rfl (hnob C)
  | _ => exact h1
set_option maxHeartbeats 4000000 in
set_option maxRecDepth 100000 in
/-- THE LAW, from its entry -/
theorem whole_start {p : Program} {e : Env} {s : State} {m : MethodId} {below : List Frame} {meth : Method} {c : Code} (l : Launch) {b L : Nat} {xs : Nat → Int32} (hL : L ≤ 2561) (C0 : lw_At p s m meth c b L xs) : W p l e room_1 s m #[Value.ref b] below meth c s.heap [] 0 0 (lw_Z below #[Value.ref b] s) (entryFrame m ([Value.ref b] : List Value).toArray 4) := by
  obtain ⟨hx, hb, hr, hml, hown, hts0, hX, hbl, hlocks, hgv⟩ := id C0
  have hts := ea_hts hts0
  have hA : ∀ q : Nat, s.heap.size ≤ q → (fun q : Nat => s.heap.size ≤ q) q := fun _ h => h
  have hbA : ¬ (fun q : Nat => s.heap.size ≤ q) b := Nat.not_le.mpr hbl
  obtain ⟨c0, iS0, hKn0⟩ := u_known (C := R_X) (T := F_X) (N := 10) (n := 10) hts i_X (hts _ kz_X)
  obtain ⟨c1, iS1, hKn1⟩ := u_known (C := R_M) (T := F_M) (N := 6) (n := 6) hts i_M (hts _ kz_M)
  obtain ⟨D, hKc⟩ : ∃ D : va_G, ∀ (k : Nat) (q : vw_C), ea_cl[k]? = some q → u_Kn s q.1 q.2.1 q.2.2 (D.1 k) (D.2 k) := by
    refine ⟨(fun k => if k = 0 then c0 else c1, fun k => if k = 0 then iS0 else iS1), ?_⟩
    intro k q hq
    match k, hq with
    | 0, hq => cases hq; exact hKn0
    | 1, hq => cases hq; exact hKn1
    | k + 2, hq => simp [ea_cl] at hq
  obtain ⟨cI, hI1, hI2⟩ := ea_arr (fun _ h => by cases h) (hts _ ka_int)
  obtain ⟨cJ, hJ1, hJ2⟩ := ea_arr (fun _ h => by cases h) (hts _ ka_long)
  have hK : va_K D ea_cl (ea_ty cI cJ) s := ⟨hKc, fun k q h => by
    match k, h with
    | 0, h => cases h; exact ⟨hI1, hI2⟩
    | 1, h => cases h; exact ⟨hJ1, hJ2⟩
    | k + 2, h => simp at h⟩
  have hS : va_S (fun q : Nat => s.heap.size ≤ q) s.heap s.heap [] := va_S.rf
  have hP : va_P D ea_cl [] s.heap := fun k q h => by simp at h
  have hD : va_D (fun q : Nat => s.heap.size ≤ q) [] := ⟨fun i j p q h => by simp at h, fun k q h => by simp at h⟩
  have hpre : ∀ {H : Heap} {locs : List Loc}, va_S (fun q : Nat => s.heap.size ≤ q) s.heap H locs → ∀ U : State, U.heap = H → s.WarmedH U.vm → va_X b L xs U U.heap := fun {H locs} hS U hU hW => by
    rw [hU]
    exact va_X.moved hW.alike (hX.kept (hS.2.1 b hbl hbA))
  have hbli : ∀ (U : State) (g : JFrame) (mk : MethodId) (a : Array Value), va_X b L xs U U.heap → va_X b L xs (U.calling g mk a) (U.calling g mk a).heap := fun U g mk a h => va_X.moved (u := U) (U := U.calling g mk a) (Vm.Alike.refl U.vm) h
  have hl := lv_entry ([.ref b]) (n := 4) (Nat.le_of_ble_eq_true rfl)
  rw [lg_entry_eq]
  generalize (lg_sl ([.ref b]) ++ List.replicate (4 - (lg_sl ([.ref b])).length) Slot.unset).toArray = ls at hl ⊢
  have hl : lv_has ls 4 [(0, .ref b)] := hl
  obtain ⟨x0, hx0⟩ : ∃ x0 : Int32, x0 = if 0 < L then xs 0 else 0 := ⟨_, rfl⟩
  have hcell := c_L_cell l b L xs hL
  rw [← hx0] at hcell
  -- the component
  refine va_new (ci := 0) (fs := [.null, .null, .null, .null, .null, .null, .null, .null, .int 0, .long 0]) (C := R_X) (T := F_X) (N := 10) hx hb hts i_X t_X t_X_ok hown (hts _ kx_X) (hts _ kz_X) (hts _ ki_X) hK hP hD hS hA rfl (fun j hj => by rcases (show j = 0 ∨ j = 1 ∨ j = 2 ∨ j = 3 ∨ j = 4 ∨ j = 5 ∨ j = 6 ∨ j = 7 ∨ j = 8 ∨ j = 9 by omega) with rfl | rfl | rfl | rfl | rfl | rfl | rfl | rfl | rfl | rfl <;> rfl) (Nat.le_of_ble_eq_true rfl) (Nat.le_of_ble_eq_true rfl) d_L_law_0 (fun hx0a H hP hD hS => ?_)
  have hP : va_P D ea_cl [(hx0a, .inr (0, [.null, .null, .null, .null, .null, .null, .null, .null, .int 0, .long 0]))] H := hP
  have hD : va_D (fun q : Nat => s.heap.size ≤ q) [(hx0a, .inr (0, [.null, .null, .null, .null, .null, .null, .null, .null, .int 0, .long 0]))] := hD
  have hlt : hx0a < H.size := (hP 0 _ rfl).lt
  have hge : s.heap.size ≤ hx0a := hD.2 0 _ rfl
  refine W.widen (k := 1) (n := 10) (by omega) (by omega) ?_
  refine lv_dup hx hb d_L_law_3 rfl ?_
  refine lv_aload_n hx hb d_L_law_4 rfl (lv_at hl 0 rfl) ?_
  refine lv_iconst (v := 0) hx hb d_L_law_5 (by decide) ?_
  refine ea_callSB (As := [.ref b, .int 0]) (rest := [.ref hx0a, .ref hx0a]) (r := x0) ⟨hx, hb, hml, hown, hts⟩ hcell ⟨kl_L_9, kt_L_cell, ki_L, kc_L_cell⟩ kd_L_cell (by decide) ⟨Nat.le_of_ble_eq_true rfl, Nat.le_of_ble_eq_true rfl⟩ hl.1 rfl (Nat.le_of_ble_eq_true rfl) d_L_law_6 ⟨Nat.le_of_ble_eq_true rfl, Nat.le_of_ble_eq_true rfl⟩ hbli (hpre hS) ?_
  refine va_callv (va_runI (As := [.int x0]) (rest := [.ref hx0a]) ⟨hx, hb, hml, hown, hts⟩ (c_X_init l D cI cJ hx0a H.size x0) ⟨callB_of 1 hts (ea_good kc_X_init) rfl rfl rfl (hts _ ki_X) (hts _ kl_L_15) kd_X_init ⟨Nat.le_of_ble_eq_true rfl, Nat.le_of_ble_eq_true rfl⟩, rfl, hts _ kn_X_init⟩ ⟨fun a U g mk q => by obtain ⟨q0, q1, qP, qK, qD⟩ := q; exact ⟨q0, q1, qP, va_K.moved (u := U) (U := U.calling g mk a) (Vm.Alike.refl U.vm) qK, qD⟩, fun U hU hW => ⟨rfl, by rw [hU], by rw [hU]; exact hP, va_K.moved hW.alike hK, hlt⟩⟩ rfl rfl hl.1 rfl (lv_room (Nat.le_of_ble_eq_true rfl)) d_L_law_9 ⟨Nat.le_of_ble_eq_true rfl, Nat.le_of_ble_eq_true rfl⟩) hS (fun q _ h => Or.elim h (fun e => by rw [e]; exact hge) (fun h => Nat.le_trans hS.1 h)) (fun q h => Or.elim h (fun e => by rw [e]; exact hge) (fun h => Nat.le_trans hS.1 h)) (fun ax t H1 locs1 ht hvm hq1 hB1 hz1 hk1 hS => ?_)
  obtain ⟨qx, mk, u⟩ := ax
  obtain ⟨hq0, hqx, hfx, hcx, hRX⟩ := hq1
  have hPX : va_P D ea_cl (ea_wX qx cI cJ (nI (ea_w x0)) mk u) H1 := by rw [← ht]; exact hB1
  have hq0 : hx0a = qx 0 := hq0.symm
  subst hq0
  have hax : ∀ i, i < 9 → s.heap.size ≤ qx i := fun i hi => by
    rcases Nat.eq_zero_or_pos i with rfl | h
    · exact hge
    · exact Nat.le_trans (Nat.le_of_lt_succ (by omega)) (Nat.le_trans hge (Nat.le_trans (Nat.le_of_lt hlt) (hfx i h hi)))
  have hDX : va_D (fun q : Nat => s.heap.size ≤ q) (ea_wX qx cI cJ (nI (ea_w x0)) mk u) := (ea_DX hqx).weaken (fun k x _ h => by obtain ⟨i, hi, e⟩ := h; rw [e]; exact hax i hi)
  refine W.widen (k := 9) (n := 298) (by omega) (by omega) ?_
  refine lv_astore_n (lv' := [(1, .ref (qx 0)), (0, .ref b)]) hx hb d_L_law_12 rfl hl (by decide) rfl (fun ls hl => ?_)
  -- the model
  refine va_new (ci := 1) (fs := [.int 0, .null, .null, .null, .null, .null]) (C := R_M) (T := F_M) (N := 6) hx hb hts i_M t_M t_M_ok hown (hts _ kx_M) (hts _ kz_M) (hts _ ki_M) hK hPX hDX hS hA rfl (fun j hj => by rcases (show j = 0 ∨ j = 1 ∨ j = 2 ∨ j = 3 ∨ j = 4 ∨ j = 5 by omega) with rfl | rfl | rfl | rfl | rfl | rfl <;> rfl) (Nat.le_of_ble_eq_true rfl) (Nat.le_of_ble_eq_true rfl) d_L_law_13 (fun hm0 H2 hP2 hD2 hS => ?_)
  have hPX : va_P D ea_cl (ea_wX qx cI cJ (nI (ea_w x0)) mk u) H2 := hP2.sub [0, 1, 2, 3, 4, 5, 6, 7, 8] rfl
  have hPM0 : va_P D ea_cl [(hm0, .inr (1, [.int 0, .null, .null, .null, .null, .null]))] H2 := hP2.sub [9] rfl
  have hlm : hm0 < H2.size := (hPM0 0 _ rfl).lt
  have hgm : s.heap.size ≤ hm0 := hD2.2 9 _ rfl
  have hkeyx : ∀ i, i < 9 → ∃ e, (ea_wX qx cI cJ (nI (ea_w x0)) mk u ++ [(hm0, .inr (1, [.int 0, .null, .null, .null, .null, .null]))])[i]? = some (qx i, e) := by
    intro i hi
    rcases (show i = 0 ∨ i = 1 ∨ i = 2 ∨ i = 3 ∨ i = 4 ∨ i = 5 ∨ i = 6 ∨ i = 7 ∨ i = 8 by omega) with rfl | rfl | rfl | rfl | rfl | rfl | rfl | rfl | rfl <;> exact ⟨_, rfl⟩
  have hxm : ∀ i, i < 9 → qx i ≠ hm0 := fun i hi he => by
    obtain ⟨e1, k1⟩ := hkeyx i hi
    have := hD2.1 i 9 _ _ k1 rfl he
    omega
  have hxlt : ∀ i, i < 9 → qx i < H2.size := fun i hi => by
    obtain ⟨e1, k1⟩ := hkeyx i hi
    exact (hP2 i _ k1).lt
  refine W.widen (k := 10) (n := 304) (by omega) (by omega) ?_
  refine lv_dup hx hb d_L_law_16 rfl ?_
  refine lv_aload_n hx hb d_L_law_17 rfl (lv_at hl 1 rfl) ?_
  refine lv_iconst (v := 0) hx hb d_L_law_18 (by decide) ?_
  refine ea_callSB (As := [.ref b, .int 0]) (rest := [.ref hm0, .ref hm0]) (r := x0) ⟨hx, hb, hml, hown, hts⟩ hcell ⟨kl_L_9, kt_L_cell, ki_L, kc_L_cell⟩ kd_L_cell (by decide) ⟨Nat.le_of_ble_eq_true rfl, Nat.le_of_ble_eq_true rfl⟩ hl.1 rfl (Nat.le_of_ble_eq_true rfl) d_L_law_19 ⟨Nat.le_of_ble_eq_true rfl, Nat.le_of_ble_eq_true rfl⟩ hbli (hpre hS) ?_
  refine va_callv (va_runI (As := [.int x0]) (rest := [.ref hm0]) ⟨hx, hb, hml, hown, hts⟩ (c_M_init l D cI cJ hm0 H2.size x0) ⟨callB_of 1 hts (ea_good kc_M_init) rfl rfl rfl (hts _ ki_M) (hts _ kl_L_20) kd_M_init ⟨Nat.le_of_ble_eq_true rfl, Nat.le_of_ble_eq_true rfl⟩, rfl, hts _ kn_M_init⟩ ⟨fun a U g mk q => by obtain ⟨q0, q1, qP, qK, qD⟩ := q; exact ⟨q0, q1, qP, va_K.moved (u := U) (U := U.calling g mk a) (Vm.Alike.refl U.vm) qK, qD⟩, fun U hU hW => ⟨rfl, by rw [hU], by rw [hU]; exact hPM0, va_K.moved hW.alike hK, hlm⟩⟩ rfl rfl hl.1 rfl (lv_room (Nat.le_of_ble_eq_true rfl)) d_L_law_22 ⟨Nat.le_of_ble_eq_true rfl, Nat.le_of_ble_eq_true rfl⟩) hS (fun q _ h => Or.elim h (fun e => by rw [e]; exact hgm) (fun h => Nat.le_trans hS.1 h)) (fun q h => Or.elim h (fun e => by rw [e]; exact hgm) (fun h => Nat.le_trans hS.1 h)) (fun am t2 H3 locs3 ht2 hvm2 hq2 hB2 hz2 hk2 hS => ?_)
  obtain ⟨qm, v⟩ := am
  obtain ⟨hm0q, hqm, hfm, hRM⟩ := hq2
  have hPM : va_P D ea_cl (ea_wM qm cI (nI (ea_w x0)) v) H3 := by rw [← ht2]; exact hB2
  have hm0q : hm0 = qm 0 := hm0q.symm
  subst hm0q
  have ham : ∀ i, i < 6 → s.heap.size ≤ qm i := fun i hi => by
    rcases Nat.eq_zero_or_pos i with rfl | h
    · exact hgm
    · exact Nat.le_trans hgm (Nat.le_trans (Nat.le_of_lt hlm) (hfm i h hi))
  have hdis : ∀ i j, i < 9 → j < 6 → qx i ≠ qm j := fun i j hi hj he => by
    rcases Nat.eq_zero_or_pos j with rfl | h
    · exact hxm i hi he
    · have h1 := hxlt i hi
      have h2 := hfm j h hj
      have h3 : qx i = qm j := he
      have h4 : H2.size ≤ qm j := h2
      omega
  have hPX : va_P D ea_cl (ea_wX qx cI cJ (nI (ea_w x0)) mk u) H3 := hPX.kept (fun k x hxk => hk2 x.1 (hPX k x hxk).lt (fun hA9 => by
    obtain ⟨i, hi, e⟩ := (ea_DX (cI := cI) (cJ := cJ) (wi := nI (ea_w x0)) (mk := mk) (u := u) hqx).2 k x hxk
    rcases hA9 with h9 | h9
    · exact hxm i hi (e.symm.trans h9)
    · have h1 := hxlt i hi
      rw [e] at h9
      exact absurd h9 (Nat.not_le.mpr h1)))
  refine W.widen (k := 15) (n := 588) (by omega) (by omega) ?_
  refine lv_astore_n (lv' := [(2, .ref (qm 0)), (1, .ref (qx 0)), (0, .ref b)]) hx hb d_L_law_25 rfl hl (by decide) rfl (fun ls hl => ?_)
  refine lv_iconst (v := nI 1) hx hb d_L_law_26 (by decide) ?_
  refine lv_istore_n (lv' := [(3, .int (nI 1)), (2, .ref (qm 0)), (1, .ref (qx 0)), (0, .ref b)]) hx hb d_L_law_27 rfl hl (by decide) rfl (fun ls hl => ?_)
  exact law_loop hL C0 ⟨hcx, hqx, hqm, hdis, hax, ham, hK⟩ L 1 ea_s0 u v _ _ ls (by omega) (by omega) ⟨ea_ok0, hRX, hRM, hPX, hPM, hS⟩ (lv_sub hl [3, 2, 1, 0] rfl)
end
section
set_option maxHeartbeats 4000000 in
theorem lw_walk (l : Launch) (b : Addr) (xs : List Int32) : MetFree l x (headSpec (Jvm.Cond.code x code maxLocals ret :: tables_1) room_1) (lw_P b xs) (fun _ _ _ _ _ => True) lw_Q := by
  refine MetFree.of_bodyS (code := code) (maxLocals := maxLocals) (ret := ret) (by decide) ?_ ?_
  · intro args s m h hn
    obtain ⟨meth, c, h1, h2, h3, h4, h5, h6, -, -⟩ := Cond.code_spec hn (atoms_spec (ws := Jvm.Cond.code x code maxLocals ret :: tables_1) h _ List.mem_cons_self)
    exact ⟨meth, c, h1, h2, h3, h4, h5, h6⟩
  · intro p e s m args below meth c s₁ B hml0 hP _
    obtain ⟨rfl, hx, hbd, hgv⟩ := hP
    obtain ⟨scr, harrAt, hlist, hof, hsmall⟩ := hx
    obtain ⟨hcb, hkn, -, -⟩ := State.arrayAt?_spec harrAt
    have hown : s.vm.findClass R_law = some m.cls := findClass_of_methodNamed B.named
    have hts0 : ∀ c ∈ (Jvm.Cond.code x code maxLocals ret :: tables_1), c.before #[Value.ref b] s = true := atoms_spec (ws := Jvm.Cond.code x code maxLocals ret :: tables_1) B.pre
    have hts : ∀ w ∈ lw_tbl, w.before #[Value.ref b] s = true := k2_hts_sels lw_privs (fun w hw => hts0 w (List.mem_cons_of_mem _ hw)) lw_privs_ok
    have hml : c.maxLocals = 4 := B.maxLocals_eq (hts0 _ List.mem_cons_self)
    have X₀ : Stand p l e room_1 s m #[Value.ref b] below meth c s₁ [] 0 0 := Stand.of_body B
    have hh0 : s₁.heap = s.heap := by rw [B.state]; rfl
    have hsz : scr.slots.size = xs.length := by rw [← Array.length_toList, hlist, List.length_map]
    have hval : ∀ j : Nat, j < xs.length → scr.slots[j]? = some (.int (xs.getD j 0)) := fun j hj => by
      rw [← Array.getElem?_toList, hlist]
      simp [hj]
    have hbl : b < s.heap.size := (Array.getElem?_eq_some_iff.mp hcb).1
    have hX : va_X b xs.length (fun j => xs.getD j 0) s s.heap := ⟨scr, hcb, hof, hkn, hsz, hval⟩
    have K : W p l e room_1 s m #[Value.ref b] below meth c s₁.heap [] 0 0 (lw_Z below #[Value.ref b] s) (entryFrame m ([Value.ref b] : List Value).toArray 4) := by
      rw [hh0]
      exact whole_start l hbd ⟨B.exec, B.bytes, B.returns, hml, hown, hts, hX, hbl, B.notSynchronized, hgv⟩
    obtain ⟨t, a1, o, b1, b2, b3⟩ := K s₁ rfl X₀
    exact ⟨t, o, a1, b1, b2, b3⟩
theorem lw_pre_spec {args : Array Value} {s : State} (h : (Jvm.Cond.and given_1 narrow_1).before args s = true) (hr : rest_1_c.before args s = true) : ∃ (b : Addr) (xs : List Int32), lw_P b xs args s := by
  have hs := flat_of_before _ h
  have hq := flat_of_before _ hr
  have hc : (Cond.count 1).before args s = true := hs _ (by decide +kernel)
  have harr : (Cond.arrayOf (.arg 0) .int).before args s = true := hs _ (by decide +kernel)
  have hle : (Cond.le (.length (.arg 0)) (.int 2561)).before args s = true := hs _ (by decide +kernel)
  have hlen : (Cond.isInt (.length (.arg 0))).before args s = true := hq _ (by decide +kernel)
  have hall : (Cond.all (.arg 0) (.isInt (.elem (.arg 0) (.index 0)))).before args s = true := hq _ (by decide +kernel)
  obtain ⟨b, xs, hb, hx⟩ := State.ints_of_pre rfl harr hlen hall
  have hsm : xs.length < 2 ^ 31 := hx.choose_spec.2.2.2
  have hev : (Term.length (.arg 0)).eval args s none [] s = some (.int xs.length.toInt32) := hx.length_eval hb
  have hv := Cond.le_ints hev (show (Term.int 2561).eval args s none [] s = some (.int 2561) from rfl)
  have hd : xs.length.toInt32 ≤ 2561 := by
    simpa [Cond.before, Cond.holds, hv] using hle
  have hN : xs.length ≤ 2561 := (Int32.ofNat_le_ofNat hsm (by decide)).mp (show Int32.ofNat xs.length ≤ Int32.ofNat 2561 from hd)
  exact ⟨b, xs, Cond.one_arg hc (show args[0]? = some (.ref b) from hb), hx, hN, h⟩
theorem lw_comes (l : Launch) : Comes l x (Jvm.Cond.code x code maxLocals ret :: tables_1) room_1 (fun tb e args s => Calls_1 tb e args s ∧ rest_1 tb e args s ∧ Pre_1 tb e args s)
    (fun _ _ args s o t => lw_Q args s o t) := by
  intro p e ha hc hk s m args below hf hfit hheap happ hpre
  obtain ⟨b, xs, hP⟩ := lw_pre_spec hpre.2.2 hpre.2.1
  obtain ⟨k, o, h1, h2, h3, hQ⟩ := lw_walk l b xs p e ha hc hk s m args below hf ((Spec.applies_iff_loose hf).mp happ).1 hP trivial
  exact ⟨k, o, h1, h2, h3, hQ⟩
theorem lw_frame {s t : State} {o : Outcome} {args : Array Value} (h : Framed s o t [] 15 588) :
    Framed s o t (fieldLocs frame_1_writes args s ++ arrayLocs frame_1_arrays args s ++ staticLocs frame_1_statics s) 15 588 := h
theorem lw_limb (L : Cond) (hL : ∀ (args : Array Value) (s t : State), L.after args s (.returned (some (.int 1))) t = true) :
    ArmFor flags0 classFile x code maxLocals ret World_1 tables_1 room_1 Calls_1 rest_1 Pre_1
      (fun tb e a s o t => postC L tb e a s o t ∧ Framed s o t (fieldLocs frame_1_writes a s ++ arrayLocs frame_1_arrays a s ++ staticLocs frame_1_statics s) 15 588) := by
  intro l _ _ _ p e ha hc hk s m args below hf hfit hheap happ hpre
  obtain ⟨k, o, h1, h2, h3, rfl, hF⟩ := lw_comes l p e ha hc hk s m args below hf hfit hheap happ hpre
  exact ⟨k, _, h1, h2, h3, hL args s _, lw_frame hF⟩
theorem i_vc : Claimed_1_1 ∧ Claimed_1_2 := ⟨lw_limb limb_1_1 (fun args s t => by simp [limb_1_1, Cond.after, Cond.holds, Cond.value]), lw_limb limb_1_2 (fun args s t => Cond.after_iff.mpr (by
  first | (rw [show limb_1_2 = Cond.eq .result (.int 1) from rfl, Cond.eq_ints (x := 1) (y := 1) rfl rfl]; simp; done) | (simp [limb_1_2, Cond.value, Term.eval]; done)))⟩
end
