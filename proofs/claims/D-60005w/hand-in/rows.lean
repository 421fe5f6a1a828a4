section
-- ===== PART A: goes FIRST, ahead of the names: the tables' words, and 'selects' of the private methods out of them =====
/-- a private method of a class that the tables say can be made, by its rows of tables_1 -/
def lw_okq (q : MethodName × Nat) : Prop := (q.1.cls ≠ "java/lang/invoke/MethodHandle" ∧ q.1.cls ≠ "java/lang/invoke/VarHandle") ∧ Cond.instantiable q.1.cls q.2 ∈ tables_1 ∧ Cond.privateMethod q.1 ∈ tables_1 ∧ Cond.instanceMethod q.1 ∈ tables_1
theorem lw_p0 : lw_okq (⟨"SplitJobPlanner", "enter", "(IIII)I"⟩, 15) := ⟨⟨by decide +kernel, by decide +kernel⟩, List.mem_of_getElem? (i := 4) (by decide +kernel), List.mem_of_getElem? (i := 63) (by decide +kernel), List.mem_of_getElem? (i := 64) (by decide +kernel)⟩
theorem lw_p1 : lw_okq (⟨"SplitJobPlanner", "freeNumber", "()I"⟩, 15) := ⟨⟨by decide +kernel, by decide +kernel⟩, List.mem_of_getElem? (i := 4) (by decide +kernel), List.mem_of_getElem? (i := 67) (by decide +kernel), List.mem_of_getElem? (i := 68) (by decide +kernel)⟩
theorem lw_p2 : lw_okq (⟨"SplitJobPlanner", "rule", "(IIII)V"⟩, 15) := ⟨⟨by decide +kernel, by decide +kernel⟩, List.mem_of_getElem? (i := 4) (by decide +kernel), List.mem_of_getElem? (i := 71) (by decide +kernel), List.mem_of_getElem? (i := 72) (by decide +kernel)⟩
theorem lw_p3 : lw_okq (⟨"SplitJobPlanner", "withinCap", "()Z"⟩, 15) := ⟨⟨by decide +kernel, by decide +kernel⟩, List.mem_of_getElem? (i := 4) (by decide +kernel), List.mem_of_getElem? (i := 75) (by decide +kernel), List.mem_of_getElem? (i := 76) (by decide +kernel)⟩
theorem lw_p4 : lw_okq (⟨"SplitJobPlanner", "leastWorst", "(I)I"⟩, 15) := ⟨⟨by decide +kernel, by decide +kernel⟩, List.mem_of_getElem? (i := 4) (by decide +kernel), List.mem_of_getElem? (i := 79) (by decide +kernel), List.mem_of_getElem? (i := 80) (by decide +kernel)⟩
theorem lw_p5 : lw_okq (⟨"SplitJobPlanner", "setReady", "(I)V"⟩, 15) := ⟨⟨by decide +kernel, by decide +kernel⟩, List.mem_of_getElem? (i := 4) (by decide +kernel), List.mem_of_getElem? (i := 83) (by decide +kernel), List.mem_of_getElem? (i := 84) (by decide +kernel)⟩
theorem lw_p6 : lw_okq (⟨"SplitJobPlanner", "pushFollowers", "(II)V"⟩, 15) := ⟨⟨by decide +kernel, by decide +kernel⟩, List.mem_of_getElem? (i := 4) (by decide +kernel), List.mem_of_getElem? (i := 87) (by decide +kernel), List.mem_of_getElem? (i := 88) (by decide +kernel)⟩
theorem lw_p7 : lw_okq (⟨"SplitJobPlanner", "firstBlock", "(I)I"⟩, 15) := ⟨⟨by decide +kernel, by decide +kernel⟩, List.mem_of_getElem? (i := 4) (by decide +kernel), List.mem_of_getElem? (i := 92) (by decide +kernel), List.mem_of_getElem? (i := 93) (by decide +kernel)⟩
theorem lw_p8 : lw_okq (⟨"SplitJobPlanner", "earliestOf", "(I)I"⟩, 15) := ⟨⟨by decide +kernel, by decide +kernel⟩, List.mem_of_getElem? (i := 4) (by decide +kernel), List.mem_of_getElem? (i := 96) (by decide +kernel), List.mem_of_getElem? (i := 97) (by decide +kernel)⟩
theorem lw_p9 : lw_okq (⟨"SplitJobPlanner", "push", "(I)V"⟩, 15) := ⟨⟨by decide +kernel, by decide +kernel⟩, List.mem_of_getElem? (i := 4) (by decide +kernel), List.mem_of_getElem? (i := 100) (by decide +kernel), List.mem_of_getElem? (i := 101) (by decide +kernel)⟩
theorem lw_p10 : lw_okq (⟨"SplitJobPlanner", "cheapestLast", "(II)I"⟩, 15) := ⟨⟨by decide +kernel, by decide +kernel⟩, List.mem_of_getElem? (i := 4) (by decide +kernel), List.mem_of_getElem? (i := 104) (by decide +kernel), List.mem_of_getElem? (i := 105) (by decide +kernel)⟩
theorem lw_p11 : lw_okq (⟨"SplitJobPlanner", "costNow", "(II)I"⟩, 15) := ⟨⟨by decide +kernel, by decide +kernel⟩, List.mem_of_getElem? (i := 4) (by decide +kernel), List.mem_of_getElem? (i := 109) (by decide +kernel), List.mem_of_getElem? (i := 110) (by decide +kernel)⟩
theorem lw_p12 : lw_okq (⟨"SplitJobPlanner", "ruled", "(II)I"⟩, 15) := ⟨⟨by decide +kernel, by decide +kernel⟩, List.mem_of_getElem? (i := 4) (by decide +kernel), List.mem_of_getElem? (i := 114) (by decide +kernel), List.mem_of_getElem? (i := 115) (by decide +kernel)⟩
theorem lw_p13 : lw_okq (⟨"SplitJobPlanner", "holds", "(I)Z"⟩, 15) := ⟨⟨by decide +kernel, by decide +kernel⟩, List.mem_of_getElem? (i := 4) (by decide +kernel), List.mem_of_getElem? (i := 126) (by decide +kernel), List.mem_of_getElem? (i := 127) (by decide +kernel)⟩
theorem lw_p14 : lw_okq (⟨"SplitJobPlanner", "reachable", "(I)I"⟩, 15) := ⟨⟨by decide +kernel, by decide +kernel⟩, List.mem_of_getElem? (i := 4) (by decide +kernel), List.mem_of_getElem? (i := 138) (by decide +kernel), List.mem_of_getElem? (i := 139) (by decide +kernel)⟩
theorem lw_p15 : lw_okq (⟨"SplitJobPlannerModel", "take", "(IIII)I"⟩, 14) := ⟨⟨by decide +kernel, by decide +kernel⟩, List.mem_of_getElem? (i := 188) (by decide +kernel), List.mem_of_getElem? (i := 243) (by decide +kernel), List.mem_of_getElem? (i := 244) (by decide +kernel)⟩
def lw_privs_1 : List (MethodName × Nat) := [(⟨"SplitJobPlanner", "enter", "(IIII)I"⟩, 15), (⟨"SplitJobPlanner", "freeNumber", "()I"⟩, 15), (⟨"SplitJobPlanner", "rule", "(IIII)V"⟩, 15), (⟨"SplitJobPlanner", "withinCap", "()Z"⟩, 15), (⟨"SplitJobPlanner", "leastWorst", "(I)I"⟩, 15), (⟨"SplitJobPlanner", "setReady", "(I)V"⟩, 15), (⟨"SplitJobPlanner", "pushFollowers", "(II)V"⟩, 15), (⟨"SplitJobPlanner", "firstBlock", "(I)I"⟩, 15), (⟨"SplitJobPlanner", "earliestOf", "(I)I"⟩, 15), (⟨"SplitJobPlanner", "push", "(I)V"⟩, 15), (⟨"SplitJobPlanner", "cheapestLast", "(II)I"⟩, 15), (⟨"SplitJobPlanner", "costNow", "(II)I"⟩, 15), (⟨"SplitJobPlanner", "ruled", "(II)I"⟩, 15), (⟨"SplitJobPlanner", "holds", "(I)Z"⟩, 15), (⟨"SplitJobPlanner", "reachable", "(I)I"⟩, 15), (⟨"SplitJobPlannerModel", "take", "(IIII)I"⟩, 14)]
theorem lw_r1 : ∀ q ∈ lw_privs_1, lw_okq q := List.forall_mem_cons.mpr ⟨lw_p0, List.forall_mem_cons.mpr ⟨lw_p1, List.forall_mem_cons.mpr ⟨lw_p2, List.forall_mem_cons.mpr ⟨lw_p3, List.forall_mem_cons.mpr ⟨lw_p4, List.forall_mem_cons.mpr ⟨lw_p5, List.forall_mem_cons.mpr ⟨lw_p6, List.forall_mem_cons.mpr ⟨lw_p7, List.forall_mem_cons.mpr ⟨lw_p8, List.forall_mem_cons.mpr ⟨lw_p9, List.forall_mem_cons.mpr ⟨lw_p10, List.forall_mem_cons.mpr ⟨lw_p11, List.forall_mem_cons.mpr ⟨lw_p12, List.forall_mem_cons.mpr ⟨lw_p13, List.forall_mem_cons.mpr ⟨lw_p14, List.forall_mem_cons.mpr ⟨lw_p15, fun _ h => absurd h List.not_mem_nil⟩⟩⟩⟩⟩⟩⟩⟩⟩⟩⟩⟩⟩⟩⟩⟩
theorem lw_p16 : lw_okq (⟨"SplitJobPlannerModel", "good", "()Z"⟩, 14) := ⟨⟨by decide +kernel, by decide +kernel⟩, List.mem_of_getElem? (i := 188) (by decide +kernel), List.mem_of_getElem? (i := 247) (by decide +kernel), List.mem_of_getElem? (i := 248) (by decide +kernel)⟩
theorem lw_p17 : lw_okq (⟨"SplitJobPlannerModel", "solve", "()V"⟩, 14) := ⟨⟨by decide +kernel, by decide +kernel⟩, List.mem_of_getElem? (i := 188) (by decide +kernel), List.mem_of_getElem? (i := 251) (by decide +kernel), List.mem_of_getElem? (i := 252) (by decide +kernel)⟩
theorem lw_p18 : lw_okq (⟨"SplitJobPlannerModel", "oneUnit", "(II)V"⟩, 14) := ⟨⟨by decide +kernel, by decide +kernel⟩, List.mem_of_getElem? (i := 188) (by decide +kernel), List.mem_of_getElem? (i := 255) (by decide +kernel), List.mem_of_getElem? (i := 256) (by decide +kernel)⟩
theorem lw_p19 : lw_okq (⟨"SplitJobPlannerModel", "ready", "(II)Z"⟩, 14) := ⟨⟨by decide +kernel, by decide +kernel⟩, List.mem_of_getElem? (i := 188) (by decide +kernel), List.mem_of_getElem? (i := 259) (by decide +kernel), List.mem_of_getElem? (i := 260) (by decide +kernel)⟩
theorem lw_p20 : lw_okq (⟨"SplitJobPlannerModel", "cost", "(II)I"⟩, 14) := ⟨⟨by decide +kernel, by decide +kernel⟩, List.mem_of_getElem? (i := 188) (by decide +kernel), List.mem_of_getElem? (i := 263) (by decide +kernel), List.mem_of_getElem? (i := 264) (by decide +kernel)⟩
theorem lw_p21 : lw_okq (⟨"SplitJobPlannerModel", "there", "(I)Z"⟩, 14) := ⟨⟨by decide +kernel, by decide +kernel⟩, List.mem_of_getElem? (i := 188) (by decide +kernel), List.mem_of_getElem? (i := 275) (by decide +kernel), List.mem_of_getElem? (i := 276) (by decide +kernel)⟩
theorem lw_p22 : lw_okq (⟨"SplitJobPlannerModel", "leads", "(II)Z"⟩, 14) := ⟨⟨by decide +kernel, by decide +kernel⟩, List.mem_of_getElem? (i := 188) (by decide +kernel), List.mem_of_getElem? (i := 287) (by decide +kernel), List.mem_of_getElem? (i := 288) (by decide +kernel)⟩
def lw_privs_2 : List (MethodName × Nat) := [(⟨"SplitJobPlannerModel", "good", "()Z"⟩, 14), (⟨"SplitJobPlannerModel", "solve", "()V"⟩, 14), (⟨"SplitJobPlannerModel", "oneUnit", "(II)V"⟩, 14), (⟨"SplitJobPlannerModel", "ready", "(II)Z"⟩, 14), (⟨"SplitJobPlannerModel", "cost", "(II)I"⟩, 14), (⟨"SplitJobPlannerModel", "there", "(I)Z"⟩, 14), (⟨"SplitJobPlannerModel", "leads", "(II)Z"⟩, 14)]
theorem lw_r2 : ∀ q ∈ lw_privs_2, lw_okq q := List.forall_mem_cons.mpr ⟨lw_p16, List.forall_mem_cons.mpr ⟨lw_p17, List.forall_mem_cons.mpr ⟨lw_p18, List.forall_mem_cons.mpr ⟨lw_p19, List.forall_mem_cons.mpr ⟨lw_p20, List.forall_mem_cons.mpr ⟨lw_p21, List.forall_mem_cons.mpr ⟨lw_p22, fun _ h => absurd h List.not_mem_nil⟩⟩⟩⟩⟩⟩⟩
def lw_privs : List (MethodName × Nat) := lw_privs_1 ++ (lw_privs_2)
def lw_tbl : List Cond := k2_sels lw_privs ++ tables_1
theorem lw_privs_ok : ∀ q ∈ lw_privs, lw_okq q := by
  show ∀ q ∈ lw_privs_1 ++ (lw_privs_2), lw_okq q
  exact List.forall_mem_append.mpr ⟨lw_r1, lw_r2⟩
def R_law : String := "SplitJobPlannerLaw"
end
section
def R_X : String := "SplitJobPlanner"
def R_M : String := "SplitJobPlannerModel"
/-- the words that hold wherever a method is called -/
def wk_tbl : List Cond := lw_tbl.filter goodWord
theorem wk_sub {w : Cond} (h : w ∈ wk_tbl) : w ∈ lw_tbl := (List.mem_filter.mp h).1
theorem mem_at {w : Cond} (i : Nat) (h : tables_1[i]? = some w) (hg : goodWord w = true := by rfl) : w ∈ wk_tbl := List.mem_filter.mpr ⟨List.mem_append_right _ (List.mem_of_getElem? h), hg⟩
theorem mem_pr {w : Cond} (i : Nat) (h : (k2_sels lw_privs)[i]? = some w) (hg : goodWord w = true := by rfl) : w ∈ wk_tbl := List.mem_filter.mpr ⟨List.mem_append_left _ (List.mem_of_getElem? h), hg⟩
theorem good_tbl : ∀ w ∈ wk_tbl, (w.onTables && w.keeps) = true ∨ ∃ ty, w = .arrayClass ty := fun w hw => good_of_word (List.mem_filter.mp hw).2
def F_X : u_T := fun k => match k with
  | 0 => ("SplitJobPlanner", "capacity", "I", true)
  | 1 => ("SplitJobPlanner", "cap", "I", true)
  | 2 => ("SplitJobPlanner", "present", "I", false)
  | 3 => ("SplitJobPlanner", "releases", "[B", true)
  | 4 => ("SplitJobPlanner", "lengths", "[B", true)
  | 5 => ("SplitJobPlanner", "kinds", "[B", true)
  | 6 => ("SplitJobPlanner", "dues", "[B", true)
  | 7 => ("SplitJobPlanner", "weights", "[B", true)
  | 8 => ("SplitJobPlanner", "follows", "[B", true)
  | 9 => ("SplitJobPlanner", "forced", "I", false)
  | 10 => ("SplitJobPlanner", "forcedBy", "I", false)
  | 11 => ("SplitJobPlanner", "ready", "[B", true)
  | 12 => ("SplitJobPlanner", "pending", "[B", true)
  | 13 => ("SplitJobPlanner", "pendingCount", "I", false)
  | _ => ("SplitJobPlanner", "blockEnd", "I", false)
def t_X : Nat → FieldType := fun k => match k with
  | 0 => .int
  | 1 => .int
  | 2 => .int
  | 3 => .array .byte
  | 4 => .array .byte
  | 5 => .array .byte
  | 6 => .array .byte
  | 7 => .array .byte
  | 8 => .array .byte
  | 9 => .int
  | 10 => .int
  | 11 => .array .byte
  | 12 => .array .byte
  | 13 => .int
  | _ => .int
theorem n_X : ∀ a, a < 15 → ∀ b, b < 15 → a ≠ b → (F_X a).2.1 ≠ (F_X b).2.1 := by decide +kernel
theorem t_X_ok : ∀ k, k < 15 → parseFieldDescriptor (F_X k).2.2.1 = some (t_X k) := by decide +kernel
theorem F_X_cls (k : Nat) : (F_X k).1 = R_X := by unfold F_X; split <;> rfl
theorem i_X : ∀ w ∈ u_ws R_X F_X 15, w ∈ wk_tbl := by decide +kernel
def F_M : u_T := fun k => match k with
  | 0 => ("SplitJobPlannerModel", "most", "I", false)
  | 1 => ("SplitJobPlannerModel", "limit", "I", false)
  | 2 => ("SplitJobPlannerModel", "held", "[Z", false)
  | 3 => ("SplitJobPlannerModel", "rel", "[I", false)
  | 4 => ("SplitJobPlannerModel", "len", "[I", false)
  | 5 => ("SplitJobPlannerModel", "rule", "[I", false)
  | 6 => ("SplitJobPlannerModel", "dueBy", "[I", false)
  | 7 => ("SplitJobPlannerModel", "heavy", "[I", false)
  | 8 => ("SplitJobPlannerModel", "pre", "[I", false)
  | 9 => ("SplitJobPlannerModel", "best", "[I", false)
  | 10 => ("SplitJobPlannerModel", "full", "I", false)
  | 11 => ("SplitJobPlannerModel", "firstDone", "I", false)
  | 12 => ("SplitJobPlannerModel", "mustId", "I", false)
  | _ => ("SplitJobPlannerModel", "mustBy", "I", false)
def t_M : Nat → FieldType := fun k => match k with
  | 0 => .int
  | 1 => .int
  | 2 => .array .boolean
  | 3 => .array .int
  | 4 => .array .int
  | 5 => .array .int
  | 6 => .array .int
  | 7 => .array .int
  | 8 => .array .int
  | 9 => .array .int
  | 10 => .int
  | 11 => .int
  | 12 => .int
  | _ => .int
theorem n_M : ∀ a, a < 14 → ∀ b, b < 14 → a ≠ b → (F_M a).2.1 ≠ (F_M b).2.1 := by decide +kernel
theorem t_M_ok : ∀ k, k < 14 → parseFieldDescriptor (F_M k).2.2.1 = some (t_M k) := by decide +kernel
theorem F_M_cls (k : Nat) : (F_M k).1 = R_M := by unfold F_M; split <;> rfl
theorem i_M : ∀ w ∈ u_ws R_M F_M 14, w ∈ wk_tbl := by decide +kernel
abbrev classes : List vw_C := [(R_X, F_X, 15), (R_M, F_M, 14)]
theorem in_init_X : Cond.initialized R_X ∈ wk_tbl := mem_at 1 rfl
theorem in_init_M : Cond.initialized R_M ∈ wk_tbl := mem_at 2 rfl
theorem in_init_L : Cond.initialized R_law ∈ wk_tbl := mem_at 0 rfl
theorem fl_X_0 : Cond.fieldLink R_X 38 R_X "capacity" "I" ∈ wk_tbl := mem_at 11 rfl
theorem fl_X_1 : Cond.fieldLink R_X 41 R_X "cap" "I" ∈ wk_tbl := mem_at 12 rfl
theorem fl_X_2 : Cond.fieldLink R_X 56 R_X "present" "I" ∈ wk_tbl := mem_at 13 rfl
theorem fl_X_3 : Cond.fieldLink R_X 7 R_X "releases" "[B" ∈ wk_tbl := mem_at 14 rfl
theorem fl_X_4 : Cond.fieldLink R_X 13 R_X "lengths" "[B" ∈ wk_tbl := mem_at 15 rfl
theorem fl_X_5 : Cond.fieldLink R_X 16 R_X "kinds" "[B" ∈ wk_tbl := mem_at 16 rfl
theorem fl_X_6 : Cond.fieldLink R_X 19 R_X "dues" "[B" ∈ wk_tbl := mem_at 17 rfl
theorem fl_X_7 : Cond.fieldLink R_X 22 R_X "weights" "[B" ∈ wk_tbl := mem_at 18 rfl
theorem fl_X_8 : Cond.fieldLink R_X 25 R_X "follows" "[B" ∈ wk_tbl := mem_at 19 rfl
theorem fl_X_9 : Cond.fieldLink R_X 28 R_X "forced" "I" ∈ wk_tbl := mem_at 20 rfl
theorem fl_X_10 : Cond.fieldLink R_X 79 R_X "forcedBy" "I" ∈ wk_tbl := mem_at 21 rfl
theorem fl_X_11 : Cond.fieldLink R_X 32 R_X "ready" "[B" ∈ wk_tbl := mem_at 22 rfl
theorem fl_X_12 : Cond.fieldLink R_X 35 R_X "pending" "[B" ∈ wk_tbl := mem_at 23 rfl
theorem fl_X_13 : Cond.fieldLink R_X 91 R_X "pendingCount" "I" ∈ wk_tbl := mem_at 24 rfl
theorem fl_X_14 : Cond.fieldLink R_X 97 R_X "blockEnd" "I" ∈ wk_tbl := mem_at 25 rfl
theorem fl_M_0 : Cond.fieldLink R_M 39 R_M "most" "I" ∈ wk_tbl := mem_at 193 rfl
theorem fl_M_1 : Cond.fieldLink R_M 42 R_M "limit" "I" ∈ wk_tbl := mem_at 194 rfl
theorem fl_M_2 : Cond.fieldLink R_M 7 R_M "held" "[Z" ∈ wk_tbl := mem_at 195 rfl
theorem fl_M_3 : Cond.fieldLink R_M 13 R_M "rel" "[I" ∈ wk_tbl := mem_at 196 rfl
theorem fl_M_4 : Cond.fieldLink R_M 17 R_M "len" "[I" ∈ wk_tbl := mem_at 197 rfl
theorem fl_M_5 : Cond.fieldLink R_M 20 R_M "rule" "[I" ∈ wk_tbl := mem_at 198 rfl
theorem fl_M_6 : Cond.fieldLink R_M 23 R_M "dueBy" "[I" ∈ wk_tbl := mem_at 199 rfl
theorem fl_M_7 : Cond.fieldLink R_M 26 R_M "heavy" "[I" ∈ wk_tbl := mem_at 200 rfl
theorem fl_M_8 : Cond.fieldLink R_M 29 R_M "pre" "[I" ∈ wk_tbl := mem_at 201 rfl
theorem fl_M_9 : Cond.fieldLink R_M 32 R_M "best" "[I" ∈ wk_tbl := mem_at 202 rfl
theorem fl_M_10 : Cond.fieldLink R_M 45 R_M "full" "I" ∈ wk_tbl := mem_at 203 rfl
theorem fl_M_11 : Cond.fieldLink R_M 48 R_M "firstDone" "I" ∈ wk_tbl := mem_at 204 rfl
theorem fl_M_12 : Cond.fieldLink R_M 35 R_M "mustId" "I" ∈ wk_tbl := mem_at 205 rfl
theorem fl_M_13 : Cond.fieldLink R_M 59 R_M "mustBy" "I" ∈ wk_tbl := mem_at 206 rfl
/-- what the tables say of a method that is called on an object -/
def yOK (y : MethodName) (cc : ByteArray) (nL : Nat) (ret : Option FieldType) (n : Nat) : Prop := Cond.instanceMethod y ∈ wk_tbl ∧ Cond.selects y.cls y y ∈ wk_tbl ∧ Cond.initialized y.cls ∈ wk_tbl ∧ Cond.code y cc nL ret ∈ wk_tbl ∧ (y.cls ≠ "java/lang/invoke/MethodHandle" ∧ y.cls ≠ "java/lang/invoke/VarHandle" ∧ (parseMethodDescriptor y.desc).map (fun d => d.parameters.length) = some n) ∧ nL ≤ 13 ∧ plainName y.cls = true
abbrev b_X_init : ByteArray := prog_1_method_1_code
def y_X_init : MethodName := ⟨R_X, "<init>", "(II)V"⟩
theorem cd_X_init : Cond.code y_X_init b_X_init 3 none ∈ wk_tbl := mem_at 7 rfl
abbrev b_X_add : ByteArray := prog_1_method_2_code
def y_X_add : MethodName := ⟨R_X, "add", "(II)I"⟩
theorem cd_X_add : Cond.code y_X_add b_X_add 3 (some .int) ∈ wk_tbl := mem_at 61 rfl
theorem ok_X_add : yOK y_X_add b_X_add 3 (some .int) 2 := ⟨mem_at 59 rfl, mem_at 60 rfl, in_init_X, cd_X_add, by decide +kernel, by decide, by decide +kernel⟩
abbrev b_X_addRuled : ByteArray := prog_1_method_3_code
def y_X_addRuled : MethodName := ⟨R_X, "addRuled", "(III)I"⟩
theorem cd_X_addRuled : Cond.code y_X_addRuled b_X_addRuled 4 (some .int) ∈ wk_tbl := mem_at 120 rfl
theorem ok_X_addRuled : yOK y_X_addRuled b_X_addRuled 4 (some .int) 3 := ⟨mem_at 118 rfl, mem_at 119 rfl, in_init_X, cd_X_addRuled, by decide +kernel, by decide, by decide +kernel⟩
abbrev b_X_enter : ByteArray := prog_1_method_4_code
def y_X_enter : MethodName := ⟨R_X, "enter", "(IIII)I"⟩
theorem cd_X_enter : Cond.code y_X_enter b_X_enter 6 (some .int) ∈ wk_tbl := mem_at 65 rfl
theorem ok_X_enter : yOK y_X_enter b_X_enter 6 (some .int) 4 := ⟨mem_at 64 rfl, mem_pr 0 rfl, in_init_X, cd_X_enter, by decide +kernel, by decide, by decide +kernel⟩
abbrev b_X_freeNumber : ByteArray := prog_1_method_5_code
def y_X_freeNumber : MethodName := ⟨R_X, "freeNumber", "()I"⟩
theorem cd_X_freeNumber : Cond.code y_X_freeNumber b_X_freeNumber 2 (some .int) ∈ wk_tbl := mem_at 69 rfl
theorem ok_X_freeNumber : yOK y_X_freeNumber b_X_freeNumber 2 (some .int) 0 := ⟨mem_at 68 rfl, mem_pr 1 rfl, in_init_X, cd_X_freeNumber, by decide +kernel, by decide, by decide +kernel⟩
abbrev b_X_rule : ByteArray := prog_1_method_6_code
def y_X_rule : MethodName := ⟨R_X, "rule", "(IIII)V"⟩
theorem cd_X_rule : Cond.code y_X_rule b_X_rule 5 none ∈ wk_tbl := mem_at 73 rfl
theorem ok_X_rule : yOK y_X_rule b_X_rule 5 none 4 := ⟨mem_at 72 rfl, mem_pr 2 rfl, in_init_X, cd_X_rule, by decide +kernel, by decide, by decide +kernel⟩
abbrev b_X_setRule : ByteArray := prog_1_method_7_code
def y_X_setRule : MethodName := ⟨R_X, "setRule", "(IIII)I"⟩
theorem cd_X_setRule : Cond.code y_X_setRule b_X_setRule 8 (some .int) ∈ wk_tbl := mem_at 124 rfl
theorem ok_X_setRule : yOK y_X_setRule b_X_setRule 8 (some .int) 4 := ⟨mem_at 122 rfl, mem_at 123 rfl, in_init_X, cd_X_setRule, by decide +kernel, by decide, by decide +kernel⟩
abbrev b_X_link : ByteArray := prog_1_method_8_code
def y_X_link : MethodName := ⟨R_X, "link", "(II)I"⟩
theorem cd_X_link : Cond.code y_X_link b_X_link 4 (some .int) ∈ wk_tbl := mem_at 132 rfl
theorem ok_X_link : yOK y_X_link b_X_link 4 (some .int) 2 := ⟨mem_at 130 rfl, mem_at 131 rfl, in_init_X, cd_X_link, by decide +kernel, by decide, by decide +kernel⟩
abbrev b_X_unlink : ByteArray := prog_1_method_9_code
def y_X_unlink : MethodName := ⟨R_X, "unlink", "(II)Z"⟩
theorem cd_X_unlink : Cond.code y_X_unlink b_X_unlink 3 (some .boolean) ∈ wk_tbl := mem_at 144 rfl
theorem ok_X_unlink : yOK y_X_unlink b_X_unlink 3 (some .boolean) 2 := ⟨mem_at 142 rfl, mem_at 143 rfl, in_init_X, cd_X_unlink, by decide +kernel, by decide, by decide +kernel⟩
abbrev b_X_remove : ByteArray := prog_1_method_10_code
def y_X_remove : MethodName := ⟨R_X, "remove", "(I)Z"⟩
theorem cd_X_remove : Cond.code y_X_remove b_X_remove 3 (some .boolean) ∈ wk_tbl := mem_at 148 rfl
theorem ok_X_remove : yOK y_X_remove b_X_remove 3 (some .boolean) 1 := ⟨mem_at 146 rfl, mem_at 147 rfl, in_init_X, cd_X_remove, by decide +kernel, by decide, by decide +kernel⟩
abbrev b_X_holds : ByteArray := prog_1_method_11_code
def y_X_holds : MethodName := ⟨R_X, "holds", "(I)Z"⟩
theorem cd_X_holds : Cond.code y_X_holds b_X_holds 2 (some .boolean) ∈ wk_tbl := mem_at 128 rfl
theorem ok_X_holds : yOK y_X_holds b_X_holds 2 (some .boolean) 1 := ⟨mem_at 127 rfl, mem_pr 13 rfl, in_init_X, cd_X_holds, by decide +kernel, by decide, by decide +kernel⟩
abbrev b_X_jobs : ByteArray := prog_1_method_12_code
def y_X_jobs : MethodName := ⟨R_X, "jobs", "()I"⟩
theorem cd_X_jobs : Cond.code y_X_jobs b_X_jobs 1 (some .int) ∈ wk_tbl := mem_at 152 rfl
theorem ok_X_jobs : yOK y_X_jobs b_X_jobs 1 (some .int) 0 := ⟨mem_at 150 rfl, mem_at 151 rfl, in_init_X, cd_X_jobs, by decide +kernel, by decide, by decide +kernel⟩
abbrev b_X_linked : ByteArray := prog_1_method_13_code
def y_X_linked : MethodName := ⟨R_X, "linked", "(II)Z"⟩
theorem cd_X_linked : Cond.code y_X_linked b_X_linked 3 (some .boolean) ∈ wk_tbl := mem_at 136 rfl
theorem ok_X_linked : yOK y_X_linked b_X_linked 3 (some .boolean) 2 := ⟨mem_at 134 rfl, mem_at 135 rfl, in_init_X, cd_X_linked, by decide +kernel, by decide, by decide +kernel⟩
abbrev b_X_reachable : ByteArray := prog_1_method_14_code
def y_X_reachable : MethodName := ⟨R_X, "reachable", "(I)I"⟩
theorem cd_X_reachable : Cond.code y_X_reachable b_X_reachable 5 (some .int) ∈ wk_tbl := mem_at 140 rfl
theorem ok_X_reachable : yOK y_X_reachable b_X_reachable 5 (some .int) 1 := ⟨mem_at 139 rfl, mem_pr 14 rfl, in_init_X, cd_X_reachable, by decide +kernel, by decide, by decide +kernel⟩
abbrev b_X_costAt : ByteArray := prog_1_method_15_code
def y_X_costAt : MethodName := ⟨R_X, "costAt", "(II)I"⟩
theorem cd_X_costAt : Cond.code y_X_costAt b_X_costAt 3 (some .int) ∈ wk_tbl := mem_at 157 rfl
theorem ok_X_costAt : yOK y_X_costAt b_X_costAt 3 (some .int) 2 := ⟨mem_at 155 rfl, mem_at 156 rfl, in_init_X, cd_X_costAt, by decide +kernel, by decide, by decide +kernel⟩
abbrev b_X_ruled : ByteArray := prog_1_method_16_code
def y_X_ruled : MethodName := ⟨R_X, "ruled", "(II)I"⟩
theorem cd_X_ruled : Cond.code y_X_ruled b_X_ruled 5 (some .int) ∈ wk_tbl := mem_at 116 rfl
theorem ok_X_ruled : yOK y_X_ruled b_X_ruled 5 (some .int) 2 := ⟨mem_at 115 rfl, mem_pr 12 rfl, in_init_X, cd_X_ruled, by decide +kernel, by decide, by decide +kernel⟩
abbrev b_X_costNow : ByteArray := prog_1_method_17_code
def y_X_costNow : MethodName := ⟨R_X, "costNow", "(II)I"⟩
theorem cd_X_costNow : Cond.code y_X_costNow b_X_costNow 3 (some .int) ∈ wk_tbl := mem_at 111 rfl
theorem ok_X_costNow : yOK y_X_costNow b_X_costNow 3 (some .int) 2 := ⟨mem_at 110 rfl, mem_pr 11 rfl, in_init_X, cd_X_costNow, by decide +kernel, by decide, by decide +kernel⟩
abbrev b_X_withinCap : ByteArray := prog_1_method_18_code
def y_X_withinCap : MethodName := ⟨R_X, "withinCap", "()Z"⟩
theorem cd_X_withinCap : Cond.code y_X_withinCap b_X_withinCap 2 (some .boolean) ∈ wk_tbl := mem_at 77 rfl
theorem ok_X_withinCap : yOK y_X_withinCap b_X_withinCap 2 (some .boolean) 0 := ⟨mem_at 76 rfl, mem_pr 3 rfl, in_init_X, cd_X_withinCap, by decide +kernel, by decide, by decide +kernel⟩
abbrev b_X_leastWorst : ByteArray := prog_1_method_19_code
def y_X_leastWorst : MethodName := ⟨R_X, "leastWorst", "(I)I"⟩
theorem cd_X_leastWorst : Cond.code y_X_leastWorst b_X_leastWorst 9 (some .int) ∈ wk_tbl := mem_at 81 rfl
theorem ok_X_leastWorst : yOK y_X_leastWorst b_X_leastWorst 9 (some .int) 1 := ⟨mem_at 80 rfl, mem_pr 4 rfl, in_init_X, cd_X_leastWorst, by decide +kernel, by decide, by decide +kernel⟩
abbrev b_X_push : ByteArray := prog_1_method_20_code
def y_X_push : MethodName := ⟨R_X, "push", "(I)V"⟩
theorem cd_X_push : Cond.code y_X_push b_X_push 2 none ∈ wk_tbl := mem_at 102 rfl
theorem ok_X_push : yOK y_X_push b_X_push 2 none 1 := ⟨mem_at 101 rfl, mem_pr 9 rfl, in_init_X, cd_X_push, by decide +kernel, by decide, by decide +kernel⟩
abbrev b_X_setReady : ByteArray := prog_1_method_21_code
def y_X_setReady : MethodName := ⟨R_X, "setReady", "(I)V"⟩
theorem cd_X_setReady : Cond.code y_X_setReady b_X_setReady 4 none ∈ wk_tbl := mem_at 85 rfl
theorem ok_X_setReady : yOK y_X_setReady b_X_setReady 4 none 1 := ⟨mem_at 84 rfl, mem_pr 5 rfl, in_init_X, cd_X_setReady, by decide +kernel, by decide, by decide +kernel⟩
abbrev b_X_pushFollowers : ByteArray := prog_1_method_22_code
def y_X_pushFollowers : MethodName := ⟨R_X, "pushFollowers", "(II)V"⟩
theorem cd_X_pushFollowers : Cond.code y_X_pushFollowers b_X_pushFollowers 6 none ∈ wk_tbl := mem_at 89 rfl
theorem ok_X_pushFollowers : yOK y_X_pushFollowers b_X_pushFollowers 6 none 2 := ⟨mem_at 88 rfl, mem_pr 6 rfl, in_init_X, cd_X_pushFollowers, by decide +kernel, by decide, by decide +kernel⟩
abbrev b_X_firstBlock : ByteArray := prog_1_method_23_code
def y_X_firstBlock : MethodName := ⟨R_X, "firstBlock", "(I)I"⟩
theorem cd_X_firstBlock : Cond.code y_X_firstBlock b_X_firstBlock 6 (some .int) ∈ wk_tbl := mem_at 94 rfl
theorem ok_X_firstBlock : yOK y_X_firstBlock b_X_firstBlock 6 (some .int) 1 := ⟨mem_at 93 rfl, mem_pr 7 rfl, in_init_X, cd_X_firstBlock, by decide +kernel, by decide, by decide +kernel⟩
abbrev b_X_earliestOf : ByteArray := prog_1_method_24_code
def y_X_earliestOf : MethodName := ⟨R_X, "earliestOf", "(I)I"⟩
theorem cd_X_earliestOf : Cond.code y_X_earliestOf b_X_earliestOf 4 (some .int) ∈ wk_tbl := mem_at 98 rfl
theorem ok_X_earliestOf : yOK y_X_earliestOf b_X_earliestOf 4 (some .int) 1 := ⟨mem_at 97 rfl, mem_pr 8 rfl, in_init_X, cd_X_earliestOf, by decide +kernel, by decide, by decide +kernel⟩
abbrev b_X_cheapestLast : ByteArray := prog_1_method_25_code
def y_X_cheapestLast : MethodName := ⟨R_X, "cheapestLast", "(II)I"⟩
theorem cd_X_cheapestLast : Cond.code y_X_cheapestLast b_X_cheapestLast 8 (some .int) ∈ wk_tbl := mem_at 106 rfl
theorem ok_X_cheapestLast : yOK y_X_cheapestLast b_X_cheapestLast 8 (some .int) 2 := ⟨mem_at 105 rfl, mem_pr 10 rfl, in_init_X, cd_X_cheapestLast, by decide +kernel, by decide, by decide +kernel⟩
abbrev b_X_worst : ByteArray := prog_1_method_26_code
def y_X_worst : MethodName := ⟨R_X, "worst", "()I"⟩
theorem cd_X_worst : Cond.code y_X_worst b_X_worst 1 (some .int) ∈ wk_tbl := mem_at 161 rfl
theorem ok_X_worst : yOK y_X_worst b_X_worst 1 (some .int) 0 := ⟨mem_at 159 rfl, mem_at 160 rfl, in_init_X, cd_X_worst, by decide +kernel, by decide, by decide +kernel⟩
abbrev b_X_worstWithout : ByteArray := prog_1_method_27_code
def y_X_worstWithout : MethodName := ⟨R_X, "worstWithout", "(I)I"⟩
theorem cd_X_worstWithout : Cond.code y_X_worstWithout b_X_worstWithout 3 (some .int) ∈ wk_tbl := mem_at 165 rfl
theorem ok_X_worstWithout : yOK y_X_worstWithout b_X_worstWithout 3 (some .int) 1 := ⟨mem_at 163 rfl, mem_at 164 rfl, in_init_X, cd_X_worstWithout, by decide +kernel, by decide, by decide +kernel⟩
abbrev b_X_span : ByteArray := prog_1_method_28_code
def y_X_span : MethodName := ⟨R_X, "span", "()I"⟩
theorem cd_X_span : Cond.code y_X_span b_X_span 5 (some .int) ∈ wk_tbl := mem_at 169 rfl
theorem ok_X_span : yOK y_X_span b_X_span 5 (some .int) 0 := ⟨mem_at 167 rfl, mem_at 168 rfl, in_init_X, cd_X_span, by decide +kernel, by decide, by decide +kernel⟩
abbrev b_X_earliestFinish : ByteArray := prog_1_method_29_code
def y_X_earliestFinish : MethodName := ⟨R_X, "earliestFinish", "(I)I"⟩
theorem cd_X_earliestFinish : Cond.code y_X_earliestFinish b_X_earliestFinish 6 (some .int) ∈ wk_tbl := mem_at 173 rfl
theorem ok_X_earliestFinish : yOK y_X_earliestFinish b_X_earliestFinish 6 (some .int) 1 := ⟨mem_at 171 rfl, mem_at 172 rfl, in_init_X, cd_X_earliestFinish, by decide +kernel, by decide, by decide +kernel⟩
abbrev b_X_delay : ByteArray := prog_1_method_30_code
def y_X_delay : MethodName := ⟨R_X, "delay", "(I)I"⟩
theorem cd_X_delay : Cond.code y_X_delay b_X_delay 6 (some .int) ∈ wk_tbl := mem_at 177 rfl
theorem ok_X_delay : yOK y_X_delay b_X_delay 6 (some .int) 1 := ⟨mem_at 175 rfl, mem_at 176 rfl, in_init_X, cd_X_delay, by decide +kernel, by decide, by decide +kernel⟩
abbrev b_X_couldPrecede : ByteArray := prog_1_method_31_code
def y_X_couldPrecede : MethodName := ⟨R_X, "couldPrecede", "(II)Z"⟩
theorem cd_X_couldPrecede : Cond.code y_X_couldPrecede b_X_couldPrecede 5 (some .boolean) ∈ wk_tbl := mem_at 181 rfl
theorem ok_X_couldPrecede : yOK y_X_couldPrecede b_X_couldPrecede 5 (some .boolean) 2 := ⟨mem_at 179 rfl, mem_at 180 rfl, in_init_X, cd_X_couldPrecede, by decide +kernel, by decide, by decide +kernel⟩
abbrev b_M_init : ByteArray := prog_3_method_1_code
def y_M_init : MethodName := ⟨R_M, "<init>", "(II)V"⟩
theorem cd_M_init : Cond.code y_M_init b_M_init 3 none ∈ wk_tbl := mem_at 191 rfl
abbrev b_M_there : ByteArray := prog_3_method_2_code
def y_M_there : MethodName := ⟨R_M, "there", "(I)Z"⟩
theorem cd_M_there : Cond.code y_M_there b_M_there 2 (some .boolean) ∈ wk_tbl := mem_at 277 rfl
theorem ok_M_there : yOK y_M_there b_M_there 2 (some .boolean) 1 := ⟨mem_at 276 rfl, mem_pr 21 rfl, in_init_M, cd_M_there, by decide +kernel, by decide, by decide +kernel⟩
abbrev b_M_cost : ByteArray := prog_3_method_3_code
def y_M_cost : MethodName := ⟨R_M, "cost", "(II)I"⟩
theorem cd_M_cost : Cond.code y_M_cost b_M_cost 4 (some .int) ∈ wk_tbl := mem_at 265 rfl
theorem ok_M_cost : yOK y_M_cost b_M_cost 4 (some .int) 2 := ⟨mem_at 264 rfl, mem_pr 20 rfl, in_init_M, cd_M_cost, by decide +kernel, by decide, by decide +kernel⟩
abbrev b_M_solve : ByteArray := prog_3_method_4_code
def y_M_solve : MethodName := ⟨R_M, "solve", "()V"⟩
theorem cd_M_solve : Cond.code y_M_solve b_M_solve 3 none ∈ wk_tbl := mem_at 253 rfl
theorem ok_M_solve : yOK y_M_solve b_M_solve 3 none 0 := ⟨mem_at 252 rfl, mem_pr 17 rfl, in_init_M, cd_M_solve, by decide +kernel, by decide, by decide +kernel⟩
abbrev b_M_oneUnit : ByteArray := prog_3_method_5_code
def y_M_oneUnit : MethodName := ⟨R_M, "oneUnit", "(II)V"⟩
theorem cd_M_oneUnit : Cond.code y_M_oneUnit b_M_oneUnit 7 none ∈ wk_tbl := mem_at 257 rfl
theorem ok_M_oneUnit : yOK y_M_oneUnit b_M_oneUnit 7 none 2 := ⟨mem_at 256 rfl, mem_pr 18 rfl, in_init_M, cd_M_oneUnit, by decide +kernel, by decide, by decide +kernel⟩
abbrev b_M_ready : ByteArray := prog_3_method_6_code
def y_M_ready : MethodName := ⟨R_M, "ready", "(II)Z"⟩
theorem cd_M_ready : Cond.code y_M_ready b_M_ready 5 (some .boolean) ∈ wk_tbl := mem_at 261 rfl
theorem ok_M_ready : yOK y_M_ready b_M_ready 5 (some .boolean) 2 := ⟨mem_at 260 rfl, mem_pr 19 rfl, in_init_M, cd_M_ready, by decide +kernel, by decide, by decide +kernel⟩
abbrev b_M_good : ByteArray := prog_3_method_7_code
def y_M_good : MethodName := ⟨R_M, "good", "()Z"⟩
theorem cd_M_good : Cond.code y_M_good b_M_good 1 (some .boolean) ∈ wk_tbl := mem_at 249 rfl
theorem ok_M_good : yOK y_M_good b_M_good 1 (some .boolean) 0 := ⟨mem_at 248 rfl, mem_pr 16 rfl, in_init_M, cd_M_good, by decide +kernel, by decide, by decide +kernel⟩
abbrev b_M_add : ByteArray := prog_3_method_8_code
def y_M_add : MethodName := ⟨R_M, "add", "(II)I"⟩
theorem cd_M_add : Cond.code y_M_add b_M_add 3 (some .int) ∈ wk_tbl := mem_at 241 rfl
theorem ok_M_add : yOK y_M_add b_M_add 3 (some .int) 2 := ⟨mem_at 239 rfl, mem_at 240 rfl, in_init_M, cd_M_add, by decide +kernel, by decide, by decide +kernel⟩
abbrev b_M_addRuled : ByteArray := prog_3_method_9_code
def y_M_addRuled : MethodName := ⟨R_M, "addRuled", "(III)I"⟩
theorem cd_M_addRuled : Cond.code y_M_addRuled b_M_addRuled 4 (some .int) ∈ wk_tbl := mem_at 269 rfl
theorem ok_M_addRuled : yOK y_M_addRuled b_M_addRuled 4 (some .int) 3 := ⟨mem_at 267 rfl, mem_at 268 rfl, in_init_M, cd_M_addRuled, by decide +kernel, by decide, by decide +kernel⟩
abbrev b_M_take : ByteArray := prog_3_method_10_code
def y_M_take : MethodName := ⟨R_M, "take", "(IIII)I"⟩
theorem cd_M_take : Cond.code y_M_take b_M_take 8 (some .int) ∈ wk_tbl := mem_at 245 rfl
theorem ok_M_take : yOK y_M_take b_M_take 8 (some .int) 4 := ⟨mem_at 244 rfl, mem_pr 15 rfl, in_init_M, cd_M_take, by decide +kernel, by decide, by decide +kernel⟩
abbrev b_M_setRule : ByteArray := prog_3_method_11_code
def y_M_setRule : MethodName := ⟨R_M, "setRule", "(IIII)I"⟩
theorem cd_M_setRule : Cond.code y_M_setRule b_M_setRule 8 (some .int) ∈ wk_tbl := mem_at 273 rfl
theorem ok_M_setRule : yOK y_M_setRule b_M_setRule 8 (some .int) 4 := ⟨mem_at 271 rfl, mem_at 272 rfl, in_init_M, cd_M_setRule, by decide +kernel, by decide, by decide +kernel⟩
abbrev b_M_leads : ByteArray := prog_3_method_12_code
def y_M_leads : MethodName := ⟨R_M, "leads", "(II)Z"⟩
theorem cd_M_leads : Cond.code y_M_leads b_M_leads 6 (some .boolean) ∈ wk_tbl := mem_at 289 rfl
theorem ok_M_leads : yOK y_M_leads b_M_leads 6 (some .boolean) 2 := ⟨mem_at 288 rfl, mem_pr 22 rfl, in_init_M, cd_M_leads, by decide +kernel, by decide, by decide +kernel⟩
abbrev b_M_link : ByteArray := prog_3_method_13_code
def y_M_link : MethodName := ⟨R_M, "link", "(II)I"⟩
theorem cd_M_link : Cond.code y_M_link b_M_link 3 (some .int) ∈ wk_tbl := mem_at 281 rfl
theorem ok_M_link : yOK y_M_link b_M_link 3 (some .int) 2 := ⟨mem_at 279 rfl, mem_at 280 rfl, in_init_M, cd_M_link, by decide +kernel, by decide, by decide +kernel⟩
abbrev b_M_unlink : ByteArray := prog_3_method_14_code
def y_M_unlink : MethodName := ⟨R_M, "unlink", "(II)Z"⟩
theorem cd_M_unlink : Cond.code y_M_unlink b_M_unlink 3 (some .boolean) ∈ wk_tbl := mem_at 293 rfl
theorem ok_M_unlink : yOK y_M_unlink b_M_unlink 3 (some .boolean) 2 := ⟨mem_at 291 rfl, mem_at 292 rfl, in_init_M, cd_M_unlink, by decide +kernel, by decide, by decide +kernel⟩
abbrev b_M_remove : ByteArray := prog_3_method_15_code
def y_M_remove : MethodName := ⟨R_M, "remove", "(I)Z"⟩
theorem cd_M_remove : Cond.code y_M_remove b_M_remove 3 (some .boolean) ∈ wk_tbl := mem_at 297 rfl
theorem ok_M_remove : yOK y_M_remove b_M_remove 3 (some .boolean) 1 := ⟨mem_at 295 rfl, mem_at 296 rfl, in_init_M, cd_M_remove, by decide +kernel, by decide, by decide +kernel⟩
abbrev b_M_jobs : ByteArray := prog_3_method_16_code
def y_M_jobs : MethodName := ⟨R_M, "jobs", "()I"⟩
theorem cd_M_jobs : Cond.code y_M_jobs b_M_jobs 3 (some .int) ∈ wk_tbl := mem_at 301 rfl
theorem ok_M_jobs : yOK y_M_jobs b_M_jobs 3 (some .int) 0 := ⟨mem_at 299 rfl, mem_at 300 rfl, in_init_M, cd_M_jobs, by decide +kernel, by decide, by decide +kernel⟩
abbrev b_M_linked : ByteArray := prog_3_method_17_code
def y_M_linked : MethodName := ⟨R_M, "linked", "(II)Z"⟩
theorem cd_M_linked : Cond.code y_M_linked b_M_linked 3 (some .boolean) ∈ wk_tbl := mem_at 285 rfl
theorem ok_M_linked : yOK y_M_linked b_M_linked 3 (some .boolean) 2 := ⟨mem_at 283 rfl, mem_at 284 rfl, in_init_M, cd_M_linked, by decide +kernel, by decide, by decide +kernel⟩
abbrev b_M_costAt : ByteArray := prog_3_method_18_code
def y_M_costAt : MethodName := ⟨R_M, "costAt", "(II)I"⟩
theorem cd_M_costAt : Cond.code y_M_costAt b_M_costAt 3 (some .int) ∈ wk_tbl := mem_at 306 rfl
theorem ok_M_costAt : yOK y_M_costAt b_M_costAt 3 (some .int) 2 := ⟨mem_at 304 rfl, mem_at 305 rfl, in_init_M, cd_M_costAt, by decide +kernel, by decide, by decide +kernel⟩
abbrev b_M_worst : ByteArray := prog_3_method_19_code
def y_M_worst : MethodName := ⟨R_M, "worst", "()I"⟩
theorem cd_M_worst : Cond.code y_M_worst b_M_worst 1 (some .int) ∈ wk_tbl := mem_at 310 rfl
theorem ok_M_worst : yOK y_M_worst b_M_worst 1 (some .int) 0 := ⟨mem_at 308 rfl, mem_at 309 rfl, in_init_M, cd_M_worst, by decide +kernel, by decide, by decide +kernel⟩
abbrev b_M_worstWithout : ByteArray := prog_3_method_20_code
def y_M_worstWithout : MethodName := ⟨R_M, "worstWithout", "(I)I"⟩
theorem cd_M_worstWithout : Cond.code y_M_worstWithout b_M_worstWithout 2 (some .int) ∈ wk_tbl := mem_at 314 rfl
theorem ok_M_worstWithout : yOK y_M_worstWithout b_M_worstWithout 2 (some .int) 1 := ⟨mem_at 312 rfl, mem_at 313 rfl, in_init_M, cd_M_worstWithout, by decide +kernel, by decide, by decide +kernel⟩
abbrev b_M_span : ByteArray := prog_3_method_21_code
def y_M_span : MethodName := ⟨R_M, "span", "()I"⟩
theorem cd_M_span : Cond.code y_M_span b_M_span 1 (some .int) ∈ wk_tbl := mem_at 318 rfl
theorem ok_M_span : yOK y_M_span b_M_span 1 (some .int) 0 := ⟨mem_at 316 rfl, mem_at 317 rfl, in_init_M, cd_M_span, by decide +kernel, by decide, by decide +kernel⟩
abbrev b_M_earliestFinish : ByteArray := prog_3_method_22_code
def y_M_earliestFinish : MethodName := ⟨R_M, "earliestFinish", "(I)I"⟩
theorem cd_M_earliestFinish : Cond.code y_M_earliestFinish b_M_earliestFinish 4 (some .int) ∈ wk_tbl := mem_at 322 rfl
theorem ok_M_earliestFinish : yOK y_M_earliestFinish b_M_earliestFinish 4 (some .int) 1 := ⟨mem_at 320 rfl, mem_at 321 rfl, in_init_M, cd_M_earliestFinish, by decide +kernel, by decide, by decide +kernel⟩
abbrev b_M_delay : ByteArray := prog_3_method_23_code
def y_M_delay : MethodName := ⟨R_M, "delay", "(I)I"⟩
theorem cd_M_delay : Cond.code y_M_delay b_M_delay 5 (some .int) ∈ wk_tbl := mem_at 326 rfl
theorem ok_M_delay : yOK y_M_delay b_M_delay 5 (some .int) 1 := ⟨mem_at 324 rfl, mem_at 325 rfl, in_init_M, cd_M_delay, by decide +kernel, by decide, by decide +kernel⟩
abbrev b_M_couldPrecede : ByteArray := prog_3_method_24_code
def y_M_couldPrecede : MethodName := ⟨R_M, "couldPrecede", "(II)Z"⟩
theorem cd_M_couldPrecede : Cond.code y_M_couldPrecede b_M_couldPrecede 5 (some .boolean) ∈ wk_tbl := mem_at 330 rfl
theorem ok_M_couldPrecede : yOK y_M_couldPrecede b_M_couldPrecede 5 (some .boolean) 2 := ⟨mem_at 328 rfl, mem_at 329 rfl, in_init_M, cd_M_couldPrecede, by decide +kernel, by decide, by decide +kernel⟩
abbrev b_L_cell : ByteArray := method_2_code
def y_L_cell : MethodName := ⟨R_law, "cell", "([II)I"⟩
theorem cd_L_cell : Cond.code y_L_cell b_L_cell 2 (some .int) ∈ wk_tbl := mem_at 186 rfl
theorem ml_L_15 : Cond.methodLink R_law 15 y_X_init ∈ wk_tbl := mem_at 5 rfl
theorem ml_L_21 : Cond.methodLink R_law 21 y_X_add ∈ wk_tbl := mem_at 58 rfl
theorem ml_X_44 : Cond.methodLink R_X 44 y_X_enter ∈ wk_tbl := mem_at 62 rfl
theorem ml_X_48 : Cond.methodLink R_X 48 y_X_freeNumber ∈ wk_tbl := mem_at 66 rfl
theorem ml_X_52 : Cond.methodLink R_X 52 y_X_rule ∈ wk_tbl := mem_at 70 rfl
theorem ml_X_59 : Cond.methodLink R_X 59 y_X_withinCap ∈ wk_tbl := mem_at 74 rfl
theorem ml_X_83 : Cond.methodLink R_X 83 y_X_leastWorst ∈ wk_tbl := mem_at 78 rfl
theorem ml_X_86 : Cond.methodLink R_X 86 y_X_setReady ∈ wk_tbl := mem_at 82 rfl
theorem ml_X_109 : Cond.methodLink R_X 109 y_X_pushFollowers ∈ wk_tbl := mem_at 86 rfl
theorem kc_X_90 : Cond.constant R_X 90 (-100000 : Int32) ∈ wk_tbl := mem_at 90 rfl
theorem ml_X_94 : Cond.methodLink R_X 94 y_X_firstBlock ∈ wk_tbl := mem_at 91 rfl
theorem ml_X_113 : Cond.methodLink R_X 113 y_X_earliestOf ∈ wk_tbl := mem_at 95 rfl
theorem ml_X_100 : Cond.methodLink R_X 100 y_X_push ∈ wk_tbl := mem_at 99 rfl
theorem ml_X_103 : Cond.methodLink R_X 103 y_X_cheapestLast ∈ wk_tbl := mem_at 103 rfl
theorem kc_X_116 : Cond.constant R_X 116 (100001 : Int32) ∈ wk_tbl := mem_at 107 rfl
theorem ml_X_106 : Cond.methodLink R_X 106 y_X_costNow ∈ wk_tbl := mem_at 108 rfl
theorem kc_X_82 : Cond.constant R_X 82 (100000 : Int32) ∈ wk_tbl := mem_at 112 rfl
theorem ml_X_75 : Cond.methodLink R_X 75 y_X_ruled ∈ wk_tbl := mem_at 113 rfl
theorem ml_L_26 : Cond.methodLink R_law 26 y_X_addRuled ∈ wk_tbl := mem_at 117 rfl
theorem ml_L_31 : Cond.methodLink R_law 31 y_X_setRule ∈ wk_tbl := mem_at 121 rfl
theorem ml_X_63 : Cond.methodLink R_X 63 y_X_holds ∈ wk_tbl := mem_at 125 rfl
theorem ml_L_36 : Cond.methodLink R_law 36 y_X_link ∈ wk_tbl := mem_at 129 rfl
theorem ml_X_67 : Cond.methodLink R_X 67 y_X_linked ∈ wk_tbl := mem_at 133 rfl
theorem ml_X_71 : Cond.methodLink R_X 71 y_X_reachable ∈ wk_tbl := mem_at 137 rfl
theorem ml_L_40 : Cond.methodLink R_law 40 y_X_unlink ∈ wk_tbl := mem_at 141 rfl
theorem ml_L_45 : Cond.methodLink R_law 45 y_X_remove ∈ wk_tbl := mem_at 145 rfl
theorem ml_L_50 : Cond.methodLink R_law 50 y_X_jobs ∈ wk_tbl := mem_at 149 rfl
theorem ml_L_55 : Cond.methodLink R_law 55 y_X_linked ∈ wk_tbl := mem_at 153 rfl
theorem ml_L_59 : Cond.methodLink R_law 59 y_X_costAt ∈ wk_tbl := mem_at 154 rfl
theorem ml_L_63 : Cond.methodLink R_law 63 y_X_worst ∈ wk_tbl := mem_at 158 rfl
theorem ml_L_67 : Cond.methodLink R_law 67 y_X_worstWithout ∈ wk_tbl := mem_at 162 rfl
theorem ml_L_72 : Cond.methodLink R_law 72 y_X_span ∈ wk_tbl := mem_at 166 rfl
theorem ml_L_76 : Cond.methodLink R_law 76 y_X_earliestFinish ∈ wk_tbl := mem_at 170 rfl
theorem ml_L_80 : Cond.methodLink R_law 80 y_X_delay ∈ wk_tbl := mem_at 174 rfl
theorem ml_L_84 : Cond.methodLink R_law 84 y_X_couldPrecede ∈ wk_tbl := mem_at 178 rfl
theorem ml_X_117 : Cond.methodLink R_X 117 y_X_link ∈ wk_tbl := mem_at 182 rfl
theorem ml_X_120 : Cond.methodLink R_X 120 y_X_unlink ∈ wk_tbl := mem_at 183 rfl
theorem ml_L_9 : Cond.methodLink R_law 9 y_L_cell ∈ wk_tbl := mem_at 184 rfl
theorem ml_L_20 : Cond.methodLink R_law 20 y_M_init ∈ wk_tbl := mem_at 189 rfl
theorem ml_L_25 : Cond.methodLink R_law 25 y_M_add ∈ wk_tbl := mem_at 238 rfl
theorem ml_M_69 : Cond.methodLink R_M 69 y_M_take ∈ wk_tbl := mem_at 242 rfl
theorem ml_M_73 : Cond.methodLink R_M 73 y_M_good ∈ wk_tbl := mem_at 246 rfl
theorem ml_M_66 : Cond.methodLink R_M 66 y_M_solve ∈ wk_tbl := mem_at 250 rfl
theorem ml_M_51 : Cond.methodLink R_M 51 y_M_oneUnit ∈ wk_tbl := mem_at 254 rfl
theorem ml_M_55 : Cond.methodLink R_M 55 y_M_ready ∈ wk_tbl := mem_at 258 rfl
theorem ml_M_62 : Cond.methodLink R_M 62 y_M_cost ∈ wk_tbl := mem_at 262 rfl
theorem ml_L_30 : Cond.methodLink R_law 30 y_M_addRuled ∈ wk_tbl := mem_at 266 rfl
theorem ml_L_35 : Cond.methodLink R_law 35 y_M_setRule ∈ wk_tbl := mem_at 270 rfl
theorem ml_M_77 : Cond.methodLink R_M 77 y_M_there ∈ wk_tbl := mem_at 274 rfl
theorem ml_L_39 : Cond.methodLink R_law 39 y_M_link ∈ wk_tbl := mem_at 278 rfl
theorem ml_M_81 : Cond.methodLink R_M 81 y_M_linked ∈ wk_tbl := mem_at 282 rfl
theorem ml_M_84 : Cond.methodLink R_M 84 y_M_leads ∈ wk_tbl := mem_at 286 rfl
theorem ml_L_44 : Cond.methodLink R_law 44 y_M_unlink ∈ wk_tbl := mem_at 290 rfl
theorem ml_L_49 : Cond.methodLink R_law 49 y_M_remove ∈ wk_tbl := mem_at 294 rfl
theorem ml_L_54 : Cond.methodLink R_law 54 y_M_jobs ∈ wk_tbl := mem_at 298 rfl
theorem ml_L_58 : Cond.methodLink R_law 58 y_M_linked ∈ wk_tbl := mem_at 302 rfl
theorem ml_L_62 : Cond.methodLink R_law 62 y_M_costAt ∈ wk_tbl := mem_at 303 rfl
theorem ml_L_66 : Cond.methodLink R_law 66 y_M_worst ∈ wk_tbl := mem_at 307 rfl
theorem ml_L_71 : Cond.methodLink R_law 71 y_M_worstWithout ∈ wk_tbl := mem_at 311 rfl
theorem ml_L_75 : Cond.methodLink R_law 75 y_M_span ∈ wk_tbl := mem_at 315 rfl
theorem ml_L_79 : Cond.methodLink R_law 79 y_M_earliestFinish ∈ wk_tbl := mem_at 319 rfl
theorem ml_L_83 : Cond.methodLink R_law 83 y_M_delay ∈ wk_tbl := mem_at 323 rfl
theorem ml_L_87 : Cond.methodLink R_law 87 y_M_couldPrecede ∈ wk_tbl := mem_at 327 rfl
theorem ml_M_87 : Cond.methodLink R_M 87 y_M_link ∈ wk_tbl := mem_at 331 rfl
theorem ml_M_90 : Cond.methodLink R_M 90 y_M_unlink ∈ wk_tbl := mem_at 332 rfl
end
section
/-! ===== numbers ===== -/
def iI (z : Int) : Int32 := Int32.ofInt z
theorem iI_toInt {z : Int} (h1 : -2147483648 ≤ z) (h2 : z < 2147483648) : (iI z).toInt = z := Int32.toInt_ofInt_of_le (by omega) (by omega)
theorem nI_iI (n : Nat) : nI n = iI (n : Int) := Int32.ofInt_eq_ofNat.symm
theorem iI_add (a b : Int) : iI a + iI b = iI (a + b) := (Int32.ofInt_add a b).symm
theorem iI_sub (a b : Int) : iI a - iI b = iI (a - b) := (Int32.ofInt_sub a b).symm
theorem iI_mul (a b : Int) : iI a * iI b = iI (a * b) := (Int32.ofInt_mul a b).symm
theorem nI_subI (a b : Nat) : nI a - nI b = iI ((a : Int) - b) := by rw [nI_iI, nI_iI, iI_sub]
theorem nI_mulI (a : Nat) (b : Int) : nI a * iI b = iI ((a : Int) * b) := by rw [nI_iI, iI_mul]
theorem iI_eq {a b : Int} (h1 : -2147483648 ≤ a) (h2 : a < 2147483648) (h3 : -2147483648 ≤ b) (h4 : b < 2147483648) (h : iI a = iI b) : a = b := by
  have := congrArg Int32.toInt h
  rwa [iI_toInt h1 h2, iI_toInt h3 h4] at this
theorem tI (n : Nat) (h : n < 2147483648) : (nI n).toInt = (n : Int) := nI_toInt (by omega)
theorem nI_cl {n : Nat} (h : n < 2147483648) : (nI n).toNatClampNeg = n := nI_clamp (by omega)
/-! ===== locals: a dense list ===== -/
def ep : Nat → List Value → List (Nat × Value)
  | _, [] => []
  | i, v :: vs => (i, v) :: ep (i + 1) vs
theorem ep_get : ∀ (L : List Value) (k i : Nat) (v : Value), L[i]? = some v → (ep k L)[i]? = some (k + i, v)
  | [], k, i, v, h => by simp at h
  | a :: L, k, 0, v, h => by
    simp at h
    simp [ep, h]
  | a :: L, k, i + 1, v, h => by
    have h1 : L[i]? = some v := by simpa using h
    have := ep_get L (k + 1) i v h1
    simp only [ep, List.getElem?_cons_succ, this]
    congr 2
    omega
theorem ep_mem : ∀ (L : List Value) (k : Nat) (q : Nat × Value), q ∈ ep k L → ∃ i, q.1 = k + i ∧ L[i]? = some q.2
  | [], k, q, h => by simp [ep] at h
  | a :: L, k, q, h => by
    simp only [ep, List.mem_cons] at h
    rcases h with rfl | h
    · exact ⟨0, rfl, rfl⟩
    · obtain ⟨i, h1, h2⟩ := ep_mem L (k + 1) q h
      exact ⟨i + 1, by omega, by simpa using h2⟩
def lh (ls : Array Slot) (nL : Nat) (L : List Value) : Prop := lv_has ls nL (ep 0 L) ∧ ∀ v ∈ L, v.category = 1
theorem lh_at {ls : Array Slot} {nL : Nat} {L : List Value} (h : lh ls nL L) {i : Nat} {v : Value} (hi : L[i]? = some v) : ls[i]? = some (.val v) := by
  have h1 := ep_get L 0 i v hi
  rw [Nat.zero_add] at h1
  exact lv_at h.1 i h1
def sto (L : List Value) (i : Nat) (v : Value) : List Value := L.take i ++ v :: L.drop (i + 1)
theorem sto_at {L : List Value} {i : Nat} {v : Value} (hi : i ≤ L.length) {j : Nat} {x : Value} (h : (sto L i v)[j]? = some x) : (j = i ∧ x = v) ∨ (j ≠ i ∧ L[j]? = some x) := by
  unfold sto at h
  have hl : (L.take i).length = i := by simp; omega
  by_cases hj : j < i
  · rw [List.getElem?_append_left (by omega), List.getElem?_take_of_lt hj] at h
    exact Or.inr ⟨by omega, h⟩
  · rw [List.getElem?_append_right (by omega), hl] at h
    by_cases hj2 : j = i
    · subst hj2
      rw [Nat.sub_self] at h
      simp at h
      exact Or.inl ⟨rfl, h.symm⟩
    · obtain ⟨d, hd⟩ : ∃ d, j - i = d + 1 := ⟨j - i - 1, by omega⟩
      rw [hd, List.getElem?_cons_succ, List.getElem?_drop] at h
      refine Or.inr ⟨hj2, ?_⟩
      rw [← h]
      congr 1
      omega
theorem lh_store {ls : Array Slot} {nL : Nat} {L : List Value} {i : Nat} {v : Value} (h : lh ls nL L) (hn : i < nL) (hi : i ≤ L.length) (hc : v.category = 1) :
    ∃ ls', storeLocals ls i v = some ls' ∧ lh ls' nL (sto L i v) := by
  obtain ⟨ls', e, h'⟩ := lv_store1 h.1 hn hc
  have hcat : ∀ x ∈ sto L i v, x.category = 1 := by
    intro x hx
    obtain ⟨j, hj⟩ := List.getElem?_of_mem hx
    rcases sto_at hi hj with ⟨-, rfl⟩ | ⟨-, h2⟩
    · exact hc
    · exact h.2 x (List.mem_of_getElem? h2)
  refine ⟨ls', e, ⟨h'.1, h'.2.1, fun q hq => ?_⟩, hcat⟩
  obtain ⟨j, h1, h2⟩ := ep_mem _ _ _ hq
  rw [Nat.zero_add] at h1
  rcases sto_at hi h2 with ⟨h3, h4⟩ | ⟨h3, h4⟩
  · have : q = (i, v) := by rw [← h3, ← h4, ← h1]
    rw [this]
    exact h'.2.2 (i, v) List.mem_cons_self
  · refine h'.2.2 q (List.mem_cons_of_mem _ (List.mem_filter.mpr ⟨?_, ?_⟩))
    · have := List.mem_of_getElem? (ep_get L 0 j q.2 h4)
      rw [Nat.zero_add, ← h1] at this
      exact this
    · have c1 := h.2 q.2 (List.mem_of_getElem? h4)
      simp [h1, h3, c1]
theorem lh_pre {ls : Array Slot} {nL : Nat} {L : List Value} (n : Nat) (h : lh ls nL L) : lh ls nL (L.take n) := by
  refine ⟨⟨h.1.1, h.1.2.1, fun q hq => ?_⟩, fun v hv => h.2 v (List.mem_of_mem_take hv)⟩
  obtain ⟨j, h1, h2⟩ := ep_mem _ _ _ hq
  rw [Nat.zero_add] at h1
  have h3 : L[j]? = some q.2 := by
    by_cases hj : j < n
    · rwa [List.getElem?_take_of_lt hj] at h2
    · rw [List.getElem?_eq_none (by simp; omega)] at h2
      cases h2
  rw [h1]
  exact lh_at h h3
theorem lv_args_ep : ∀ (L : List Value) (k : Nat), (∀ v ∈ L, v.category = 1) → lv_args k L = ep k L
  | [], _, _ => rfl
  | a :: L, k, h => by
    have h1 : a.category = 1 := h a List.mem_cons_self
    have h2 := lv_args_ep L (k + 1) (fun v hv => h v (List.mem_cons_of_mem _ hv))
    simp only [lv_args, ep, h1]
    simp [h2]
theorem lg_len : ∀ (L : List Value), (∀ v ∈ L, v.category = 1) → (lg_sl L).length = L.length
  | [], _ => rfl
  | a :: L, h => by
    have h1 : a.category = 1 := h a List.mem_cons_self
    have h2 := lg_len L (fun v hv => h v (List.mem_cons_of_mem _ hv))
    have h3 : lg_sl (a :: L) = [.val a] ++ lg_sl L := by simp [lg_sl, h1]
    rw [h3]
    simp [h2]
/-! ===== the judgement J: heap, written places and locals' array hidden ===== -/
abbrev Kc : Type := (Program × Env × Room × State) × (MethodId × Array Value × List Frame × Method × Code) × (Nat → Prop) × Nat × Nat × (State → Prop)
def rmD (d : Nat) : Room := { frames := d, cells := 0, slots := 0, locals := 32 * d }
abbrev KW (l : Launch) (K : Kc) (H : Heap) (locs : List Loc) (g : JFrame) : Prop := W K.1.1 l K.1.2.1 K.1.2.2.1 K.1.2.2.2 K.2.1.1 K.2.1.2.1 K.2.1.2.2.1 K.2.1.2.2.2.1 K.2.1.2.2.2.2 H locs K.2.2.2.1 K.2.2.2.2.1 K.2.2.2.2.2 g
def J {S : Type} (l : Launch) (D : va_G) (K : Kc) (w : S → va_W) (u : S) (pc : Nat) (L : List Value) (st : List Value) : Prop :=
  ∀ (H : Heap) (locs : List Loc) (ls : Array Slot), va_P D classes (w u) H → va_D K.2.2.1 (w u) → va_S K.2.2.1 K.1.2.2.2.heap H locs → lh ls K.2.1.2.2.2.2.maxLocals L → KW l K H locs (F0 K.2.1.1 pc ls st)
/-- what is known at every place of a method's body -/
def Kok (D : va_G) (tys : List (ClassId × FieldType)) (K : Kc) (cc : ByteArray) (nL : Nat) (own : String) (d : Nat) : Prop :=
  K.1.1.tables.exec = Jvm.exec ∧ K.2.1.2.2.2.2.code = cc ∧ K.2.1.2.2.2.2.maxLocals = nL ∧ K.1.2.2.2.vm.findClass own = some K.2.1.1.cls ∧ (∀ w ∈ wk_tbl, w.before K.2.1.2.1 K.1.2.2.2 = true) ∧ va_K D classes tys K.1.2.2.2 ∧ (∀ q, K.1.2.2.2.heap.size ≤ q → K.2.2.1 q) ∧ (d ≤ K.1.2.2.1.frames ∧ 32 * d ≤ K.1.2.2.1.locals) ∧ (K.2.2.2.1 ≤ K.1.2.2.1.cells ∧ K.2.2.2.2.1 ≤ K.1.2.2.1.slots)
section JROWS
variable {S : Type} {l : Launch} {D : va_G} {tys : List (ClassId × FieldType)} {K : Kc} {cc : ByteArray} {nL d : Nat} {own : String} {w : S → va_W} {u : S} {pc : Nat} {L st : List Value}
theorem j_iconst (C : Kok D tys K cc nL own d) {n : Int} {v : Int32} (hdg : decode cc pc = .ok (.iconst n, 1)) (hv : Int32.ofInt n = v) (k : J l D K w u (pc + 1) L (.int v :: st)) : J l D K w u pc L st :=
  fun H locs ls hP hD hS hl => lv_iconst C.1 C.2.1 hdg hv (k H locs ls hP hD hS hl)
theorem j_bipush (C : Kok D tys K cc nL own d) {n : Int} {v : Int32} (hdg : decode cc pc = .ok (.bipush n, 2)) (hv : (Int8.ofInt n).toInt32 = v) (k : J l D K w u (pc + 2) L (.int v :: st)) : J l D K w u pc L st :=
  fun H locs ls hP hD hS hl => lv_bipush C.1 C.2.1 hdg hv (k H locs ls hP hD hS hl)
theorem j_sipush (C : Kok D tys K cc nL own d) {n : Int} {v : Int32} (hdg : decode cc pc = .ok (.sipush n, 3)) (hv : (Int16.ofInt n).toInt32 = v) (k : J l D K w u (pc + 3) L (.int v :: st)) : J l D K w u pc L st :=
  fun H locs ls hP hD hS hl => lv_sipush C.1 C.2.1 hdg hv (k H locs ls hP hD hS hl)
theorem j_ldc (C : Kok D tys K cc nL own d) {index : Nat} {c v : Int32} (hdg : decode cc pc = .ok (.ldc index, 2)) (hc : Cond.constant own index c ∈ wk_tbl) (hv : c = v) (k : J l D K w u (pc + 2) L (.int v :: st)) : J l D K w u pc L st := by
  subst hv
  exact fun H locs ls hP hD hS hl => lv_ldc C.1 C.2.1 C.2.2.2.1 (C.2.2.2.2.1 _ hc) hdg (k H locs ls hP hD hS hl)
theorem j_iload_n (C : Kok D tys K cc nL own d) {i : Fin 4} {x : Int32} (hdg : decode cc pc = .ok (.iload_n i, 1)) (hL : L[(i : Nat)]? = some (.int x)) (k : J l D K w u (pc + 1) L (.int x :: st)) : J l D K w u pc L st :=
  fun H locs ls hP hD hS hl => lv_iload_n C.1 C.2.1 hdg rfl (lh_at hl hL) (k H locs ls hP hD hS hl)
theorem j_iload (C : Kok D tys K cc nL own d) {i : Nat} {x : Int32} (hdg : decode cc pc = .ok (.iload i, 2)) (hL : L[i]? = some (.int x)) (k : J l D K w u (pc + 2) L (.int x :: st)) : J l D K w u pc L st :=
  fun H locs ls hP hD hS hl => lv_iload C.1 C.2.1 hdg (lh_at hl hL) (k H locs ls hP hD hS hl)
theorem j_aload_n (C : Kok D tys K cc nL own d) {i : Fin 4} {a : Nat} (hdg : decode cc pc = .ok (.aload_n i, 1)) (hL : L[(i : Nat)]? = some (.ref a)) (k : J l D K w u (pc + 1) L (.ref a :: st)) : J l D K w u pc L st :=
  fun H locs ls hP hD hS hl => lv_aload_n C.1 C.2.1 hdg rfl (lh_at hl hL) (k H locs ls hP hD hS hl)
theorem w_store_n {p : Program} {e : Env} {R : Room} {s : State} {m : MethodId} {args : Array Value} {below : List Frame} {meth : Method} {c : Code} {H : Heap} {locs : List Loc} {cells slots : Nat} {Q : State → Prop} {cc : ByteArray} {pc : Nat} {ls ls' : Array Slot} {rest : List Value} {i : Fin 4} {x : Int32} (hexec : p.tables.exec = Jvm.exec) (hb : c.code = cc) (hdg : decode cc pc = .ok (.istore_n i, 1)) (e' : storeLocals ls (i : Nat) (.int x) = some ls')
    (kk : W p l e R s m args below meth c H locs cells slots Q (F0 m (pc + 1) ls' rest)) : W p l e R s m args below meth c H locs cells slots Q (F0 m pc ls (.int x :: rest)) := by
  intro T hT X
  obtain ⟨t, a, b⟩ := kk T hT X
  refine ⟨t, ?_, b⟩
  jvm_step X.here [X.here.top, ↓top_set X.here.top, hexec, hb, hdg, e']
  exact a
theorem w_store {p : Program} {e : Env} {R : Room} {s : State} {m : MethodId} {args : Array Value} {below : List Frame} {meth : Method} {c : Code} {H : Heap} {locs : List Loc} {cells slots : Nat} {Q : State → Prop} {cc : ByteArray} {pc : Nat} {ls ls' : Array Slot} {rest : List Value} {i : Nat} {x : Int32} (hexec : p.tables.exec = Jvm.exec) (hb : c.code = cc) (hdg : decode cc pc = .ok (.istore i, 2)) (e' : storeLocals ls i (.int x) = some ls')
    (kk : W p l e R s m args below meth c H locs cells slots Q (F0 m (pc + 2) ls' rest)) : W p l e R s m args below meth c H locs cells slots Q (F0 m pc ls (.int x :: rest)) := by
  intro T hT X
  obtain ⟨t, a, b⟩ := kk T hT X
  refine ⟨t, ?_, b⟩
  jvm_step X.here [X.here.top, ↓top_set X.here.top, hexec, hb, hdg, e']
  exact a
theorem w_inc {p : Program} {e : Env} {R : Room} {s : State} {m : MethodId} {args : Array Value} {below : List Frame} {meth : Method} {c : Code} {H : Heap} {locs : List Loc} {cells slots : Nat} {Q : State → Prop} {cc : ByteArray} {pc : Nat} {ls ls' : Array Slot} {rest : List Value} {i : Nat} {n : Int} {x : Int32} (hexec : p.tables.exec = Jvm.exec) (hb : c.code = cc) (hdg : decode cc pc = .ok (.iinc i n, 3)) (hg : ls[i]? = some (.val (.int x))) (e' : storeLocals ls i (.int (x + Int32.ofInt n)) = some ls')
    (kk : W p l e R s m args below meth c H locs cells slots Q (F0 m (pc + 3) ls' rest)) : W p l e R s m args below meth c H locs cells slots Q (F0 m pc ls rest) := by
  intro T hT X
  obtain ⟨t, a, b⟩ := kk T hT X
  refine ⟨t, ?_, b⟩
  jvm_step X.here [X.here.top, ↓top_set X.here.top, hexec, hb, hdg, hg, e']
  exact a
theorem j_istore_n (C : Kok D tys K cc nL own d) {i : Fin 4} {x : Int32} {L' : List Value} (hdg : decode cc pc = .ok (.istore_n i, 1)) (hn : (i : Nat) < nL) (hi : (i : Nat) ≤ L.length) (hL : sto L i (.int x) = L') (k : J l D K w u (pc + 1) L' st) : J l D K w u pc L (.int x :: st) := by
  intro H locs ls hP hD hS hl
  obtain ⟨ls', e', h'⟩ := lh_store (v := .int x) hl (by rw [C.2.2.1]; exact hn) hi rfl
  exact w_store_n C.1 C.2.1 hdg e' (k H locs ls' hP hD hS (hL ▸ h'))
theorem j_istore (C : Kok D tys K cc nL own d) {i : Nat} {x : Int32} {L' : List Value} (hdg : decode cc pc = .ok (.istore i, 2)) (hn : i < nL) (hi : i ≤ L.length) (hL : sto L i (.int x) = L') (k : J l D K w u (pc + 2) L' st) : J l D K w u pc L (.int x :: st) := by
  intro H locs ls hP hD hS hl
  obtain ⟨ls', e', h'⟩ := lh_store (v := .int x) hl (by rw [C.2.2.1]; exact hn) hi rfl
  exact w_store C.1 C.2.1 hdg e' (k H locs ls' hP hD hS (hL ▸ h'))
theorem j_iinc (C : Kok D tys K cc nL own d) {i : Nat} {n : Int} {x v : Int32} {L' : List Value} (hdg : decode cc pc = .ok (.iinc i n, 3)) (hn : i < nL) (hx : L[i]? = some (.int x)) (hv : x + Int32.ofInt n = v) (hL : sto L i (.int v) = L') (k : J l D K w u (pc + 3) L' st) : J l D K w u pc L st := by
  intro H locs ls hP hD hS hl
  subst hv
  have hi : i ≤ L.length := Nat.le_of_lt (List.getElem?_eq_some_iff.mp hx).1
  obtain ⟨ls', e', h'⟩ := lh_store (v := .int (x + Int32.ofInt n)) hl (by rw [C.2.2.1]; exact hn) hi rfl
  exact w_inc C.1 C.2.1 hdg (lh_at hl hx) e' (k H locs ls' hP hD hS (hL ▸ h'))
/-- fewer locals -/
theorem j_take (n : Nat) {L' : List Value} (hL : L.take n = L') (k : J l D K w u pc L' st) : J l D K w u pc L st :=
  fun H locs ls hP hD hS hl => k H locs ls hP hD hS (hL ▸ lh_pre n hl)
theorem j_iadd (C : Kok D tys K cc nL own d) {x y z : Int32} (hdg : decode cc pc = .ok (.iadd, 1)) (hz : x + y = z) (k : J l D K w u (pc + 1) L (.int z :: st)) : J l D K w u pc L (.int y :: .int x :: st) := by
  subst hz
  exact fun H locs ls hP hD hS hl => lv_iadd C.1 C.2.1 hdg (k H locs ls hP hD hS hl)
theorem j_isub (C : Kok D tys K cc nL own d) {x y z : Int32} (hdg : decode cc pc = .ok (.isub, 1)) (hz : x - y = z) (k : J l D K w u (pc + 1) L (.int z :: st)) : J l D K w u pc L (.int y :: .int x :: st) := by
  subst hz
  exact fun H locs ls hP hD hS hl => lv_isub C.1 C.2.1 hdg (k H locs ls hP hD hS hl)
theorem j_imul (C : Kok D tys K cc nL own d) {x y z : Int32} (hdg : decode cc pc = .ok (.imul, 1)) (hz : x * y = z) (k : J l D K w u (pc + 1) L (.int z :: st)) : J l D K w u pc L (.int y :: .int x :: st) := by
  subst hz
  exact fun H locs ls hP hD hS hl => lv_imul C.1 C.2.1 hdg (k H locs ls hP hD hS hl)
theorem j_iand (C : Kok D tys K cc nL own d) {x y z : Int32} (hdg : decode cc pc = .ok (.iand, 1)) (hz : x &&& y = z) (k : J l D K w u (pc + 1) L (.int z :: st)) : J l D K w u pc L (.int y :: .int x :: st) := by
  subst hz
  exact fun H locs ls hP hD hS hl => lv_iand C.1 C.2.1 hdg (k H locs ls hP hD hS hl)
theorem j_ior (C : Kok D tys K cc nL own d) {x y z : Int32} (hdg : decode cc pc = .ok (.ior, 1)) (hz : x ||| y = z) (k : J l D K w u (pc + 1) L (.int z :: st)) : J l D K w u pc L (.int y :: .int x :: st) := by
  subst hz
  exact fun H locs ls hP hD hS hl => lv_ior C.1 C.2.1 hdg (k H locs ls hP hD hS hl)
theorem j_ixor (C : Kok D tys K cc nL own d) {x y z : Int32} (hdg : decode cc pc = .ok (.ixor, 1)) (hz : x ^^^ y = z) (k : J l D K w u (pc + 1) L (.int z :: st)) : J l D K w u pc L (.int y :: .int x :: st) := by
  subst hz
  exact fun H locs ls hP hD hS hl => lv_ixor C.1 C.2.1 hdg (k H locs ls hP hD hS hl)
theorem j_ishl (C : Kok D tys K cc nL own d) {x y z : Int32} (hdg : decode cc pc = .ok (.ishl, 1)) (hz : x <<< (y &&& 31) = z) (k : J l D K w u (pc + 1) L (.int z :: st)) : J l D K w u pc L (.int y :: .int x :: st) := by
  subst hz
  exact fun H locs ls hP hD hS hl => lv_ishl C.1 C.2.1 hdg (k H locs ls hP hD hS hl)
theorem j_ishr (C : Kok D tys K cc nL own d) {x y z : Int32} (hdg : decode cc pc = .ok (.ishr, 1)) (hz : x >>> (y &&& 31) = z) (k : J l D K w u (pc + 1) L (.int z :: st)) : J l D K w u pc L (.int y :: .int x :: st) := by
  subst hz
  exact fun H locs ls hP hD hS hl => lv_ishr C.1 C.2.1 hdg (k H locs ls hP hD hS hl)
theorem j_i2b (C : Kok D tys K cc nL own d) {x z : Int32} (hdg : decode cc pc = .ok (.i2b, 1)) (hz : x.toInt8.toInt32 = z) (k : J l D K w u (pc + 1) L (.int z :: st)) : J l D K w u pc L (.int x :: st) :=
  fun H locs ls hP hD hS hl => lv_i2b C.1 C.2.1 hdg hz (k H locs ls hP hD hS hl)
theorem j_dup (C : Kok D tys K cc nL own d) {v : Value} (hdg : decode cc pc = .ok (.dup, 1)) (hc : v.category = 1) (k : J l D K w u (pc + 1) L (v :: v :: st)) : J l D K w u pc L (v :: st) :=
  fun H locs ls hP hD hS hl => lv_dup C.1 C.2.1 hdg hc (k H locs ls hP hD hS hl)
theorem j_pop (C : Kok D tys K cc nL own d) {v : Value} (hdg : decode cc pc = .ok (.pop, 1)) (hc : v.category = 1) (k : J l D K w u (pc + 1) L st) : J l D K w u pc L (v :: st) :=
  fun H locs ls hP hD hS hl => lv_pop C.1 C.2.1 hdg hc (k H locs ls hP hD hS hl)
theorem j_goto (C : Kok D tys K cc nL own d) {off : Int} {tgt : Nat} (hdg : decode cc pc = .ok (.goto off, 3)) (ht : (pc : Int) + off = (tgt : Int)) (k : J l D K w u tgt L st) : J l D K w u pc L st :=
  fun H locs ls hP hD hS hl => lv_goto C.1 C.2.1 hdg ht (k H locs ls hP hD hS hl)
/-- the value on top under another name -/
theorem j_top {x y : Int32} (h : x = y) (k : J l D K w u pc L (.int y :: st)) : J l D K w u pc L (.int x :: st) := h ▸ k
theorem z_int {x : Int32} {a : Int} (hx : x.toInt = a) : x = 0 ↔ a = 0 := by
  rw [← Int32.toInt_inj, hx]
  exact Iff.rfl
theorem e_int {x y : Int32} {a b : Int} (hx : x.toInt = a) (hy : y.toInt = b) : x = y ↔ a = b := by rw [← Int32.toInt_inj, hx, hy]
theorem lt_int {x y : Int32} {a b : Int} (hx : x.toInt = a) (hy : y.toInt = b) : x < y ↔ a < b := by rw [Int32.lt_iff_toInt_lt, hx, hy]
theorem le_int {x y : Int32} {a b : Int} (hx : x.toInt = a) (hy : y.toInt = b) : x ≤ y ↔ a ≤ b := by rw [Int32.le_iff_toInt_le, hx, hy]
theorem zero_int : (0 : Int32).toInt = 0 := by decide
theorem j_if_eq (C : Kok D tys K cc nL own d) {x : Int32} {a off : Int} {tgt : Nat} (hdg : decode cc pc = .ok (.ifCond .eq off, 3)) (ht : (pc : Int) + off = (tgt : Int)) (hx : x.toInt = a) (kt : a = 0 → J l D K w u tgt L st) (kf : a ≠ 0 → J l D K w u (pc + 3) L st) : J l D K w u pc L (.int x :: st) :=
  fun H locs ls hP hD hS hl => lv_if_eq C.1 C.2.1 hdg ht (fun h => kt ((z_int hx).mp h) H locs ls hP hD hS hl) (fun h => kf (fun z => h ((z_int hx).mpr z)) H locs ls hP hD hS hl)
theorem j_if_ne (C : Kok D tys K cc nL own d) {x : Int32} {a off : Int} {tgt : Nat} (hdg : decode cc pc = .ok (.ifCond .ne off, 3)) (ht : (pc : Int) + off = (tgt : Int)) (hx : x.toInt = a) (kt : a ≠ 0 → J l D K w u tgt L st) (kf : a = 0 → J l D K w u (pc + 3) L st) : J l D K w u pc L (.int x :: st) :=
  fun H locs ls hP hD hS hl => lv_if_ne C.1 C.2.1 hdg ht (fun h => kt (fun z => h ((z_int hx).mpr z)) H locs ls hP hD hS hl) (fun h => kf ((z_int hx).mp h) H locs ls hP hD hS hl)
theorem j_if_lt (C : Kok D tys K cc nL own d) {x : Int32} {a off : Int} {tgt : Nat} (hdg : decode cc pc = .ok (.ifCond .lt off, 3)) (ht : (pc : Int) + off = (tgt : Int)) (hx : x.toInt = a) (kt : a < 0 → J l D K w u tgt L st) (kf : 0 ≤ a → J l D K w u (pc + 3) L st) : J l D K w u pc L (.int x :: st) :=
  fun H locs ls hP hD hS hl => lv_if_lt C.1 C.2.1 hdg ht (fun h => kt ((lt_int hx zero_int).mp h) H locs ls hP hD hS hl) (fun h => kf (Int.not_lt.mp fun z => h ((lt_int hx zero_int).mpr z)) H locs ls hP hD hS hl)
theorem j_if_ge (C : Kok D tys K cc nL own d) {x : Int32} {a off : Int} {tgt : Nat} (hdg : decode cc pc = .ok (.ifCond .ge off, 3)) (ht : (pc : Int) + off = (tgt : Int)) (hx : x.toInt = a) (kt : 0 ≤ a → J l D K w u tgt L st) (kf : a < 0 → J l D K w u (pc + 3) L st) : J l D K w u pc L (.int x :: st) :=
  fun H locs ls hP hD hS hl => lv_if_ge C.1 C.2.1 hdg ht (fun h => kt ((le_int zero_int hx).mp h) H locs ls hP hD hS hl) (fun h => kf (Int.not_le.mp fun z => h ((le_int zero_int hx).mpr z)) H locs ls hP hD hS hl)
theorem j_if_gt (C : Kok D tys K cc nL own d) {x : Int32} {a off : Int} {tgt : Nat} (hdg : decode cc pc = .ok (.ifCond .gt off, 3)) (ht : (pc : Int) + off = (tgt : Int)) (hx : x.toInt = a) (kt : 0 < a → J l D K w u tgt L st) (kf : a ≤ 0 → J l D K w u (pc + 3) L st) : J l D K w u pc L (.int x :: st) :=
  fun H locs ls hP hD hS hl => lv_if_gt C.1 C.2.1 hdg ht (fun h => kt ((lt_int zero_int hx).mp h) H locs ls hP hD hS hl) (fun h => kf (Int.not_lt.mp fun z => h ((lt_int zero_int hx).mpr z)) H locs ls hP hD hS hl)
theorem j_if_le (C : Kok D tys K cc nL own d) {x : Int32} {a off : Int} {tgt : Nat} (hdg : decode cc pc = .ok (.ifCond .le off, 3)) (ht : (pc : Int) + off = (tgt : Int)) (hx : x.toInt = a) (kt : a ≤ 0 → J l D K w u tgt L st) (kf : 0 < a → J l D K w u (pc + 3) L st) : J l D K w u pc L (.int x :: st) :=
  fun H locs ls hP hD hS hl => lv_if_le C.1 C.2.1 hdg ht (fun h => kt ((le_int hx zero_int).mp h) H locs ls hP hD hS hl) (fun h => kf (Int.not_le.mp fun z => h ((le_int hx zero_int).mpr z)) H locs ls hP hD hS hl)
theorem j_icmp_eq (C : Kok D tys K cc nL own d) {x y : Int32} {a b off : Int} {tgt : Nat} (hdg : decode cc pc = .ok (.if_icmp .eq off, 3)) (ht : (pc : Int) + off = (tgt : Int)) (hx : x.toInt = a) (hy : y.toInt = b) (kt : a = b → J l D K w u tgt L st) (kf : a ≠ b → J l D K w u (pc + 3) L st) : J l D K w u pc L (.int y :: .int x :: st) :=
  fun H locs ls hP hD hS hl => lv_icmp_eq C.1 C.2.1 hdg ht (fun h => kt ((e_int hx hy).mp h) H locs ls hP hD hS hl) (fun h => kf (fun z => h ((e_int hx hy).mpr z)) H locs ls hP hD hS hl)
theorem j_icmp_ne (C : Kok D tys K cc nL own d) {x y : Int32} {a b off : Int} {tgt : Nat} (hdg : decode cc pc = .ok (.if_icmp .ne off, 3)) (ht : (pc : Int) + off = (tgt : Int)) (hx : x.toInt = a) (hy : y.toInt = b) (kt : a ≠ b → J l D K w u tgt L st) (kf : a = b → J l D K w u (pc + 3) L st) : J l D K w u pc L (.int y :: .int x :: st) :=
  fun H locs ls hP hD hS hl => lv_icmp_ne C.1 C.2.1 hdg ht (fun h => kt (fun z => h ((e_int hx hy).mpr z)) H locs ls hP hD hS hl) (fun h => kf ((e_int hx hy).mp h) H locs ls hP hD hS hl)
theorem j_icmp_lt (C : Kok D tys K cc nL own d) {x y : Int32} {a b off : Int} {tgt : Nat} (hdg : decode cc pc = .ok (.if_icmp .lt off, 3)) (ht : (pc : Int) + off = (tgt : Int)) (hx : x.toInt = a) (hy : y.toInt = b) (kt : a < b → J l D K w u tgt L st) (kf : b ≤ a → J l D K w u (pc + 3) L st) : J l D K w u pc L (.int y :: .int x :: st) :=
  fun H locs ls hP hD hS hl => lv_icmp_lt C.1 C.2.1 hdg ht (fun h => kt ((lt_int hx hy).mp h) H locs ls hP hD hS hl) (fun h => kf (Int.not_lt.mp fun z => h ((lt_int hx hy).mpr z)) H locs ls hP hD hS hl)
theorem j_icmp_ge (C : Kok D tys K cc nL own d) {x y : Int32} {a b off : Int} {tgt : Nat} (hdg : decode cc pc = .ok (.if_icmp .ge off, 3)) (ht : (pc : Int) + off = (tgt : Int)) (hx : x.toInt = a) (hy : y.toInt = b) (kt : b ≤ a → J l D K w u tgt L st) (kf : a < b → J l D K w u (pc + 3) L st) : J l D K w u pc L (.int y :: .int x :: st) :=
  fun H locs ls hP hD hS hl => lv_icmp_ge C.1 C.2.1 hdg ht (fun h => kt ((le_int hy hx).mp h) H locs ls hP hD hS hl) (fun h => kf (Int.not_le.mp fun z => h ((le_int hy hx).mpr z)) H locs ls hP hD hS hl)
theorem j_icmp_gt (C : Kok D tys K cc nL own d) {x y : Int32} {a b off : Int} {tgt : Nat} (hdg : decode cc pc = .ok (.if_icmp .gt off, 3)) (ht : (pc : Int) + off = (tgt : Int)) (hx : x.toInt = a) (hy : y.toInt = b) (kt : b < a → J l D K w u tgt L st) (kf : a ≤ b → J l D K w u (pc + 3) L st) : J l D K w u pc L (.int y :: .int x :: st) :=
  fun H locs ls hP hD hS hl => lv_icmp_gt C.1 C.2.1 hdg ht (fun h => kt ((lt_int hy hx).mp h) H locs ls hP hD hS hl) (fun h => kf (Int.not_lt.mp fun z => h ((lt_int hy hx).mpr z)) H locs ls hP hD hS hl)
theorem j_icmp_le (C : Kok D tys K cc nL own d) {x y : Int32} {a b off : Int} {tgt : Nat} (hdg : decode cc pc = .ok (.if_icmp .le off, 3)) (ht : (pc : Int) + off = (tgt : Int)) (hx : x.toInt = a) (hy : y.toInt = b) (kt : a ≤ b → J l D K w u tgt L st) (kf : b < a → J l D K w u (pc + 3) L st) : J l D K w u pc L (.int y :: .int x :: st) :=
  fun H locs ls hP hD hS hl => lv_icmp_le C.1 C.2.1 hdg ht (fun h => kt ((le_int hx hy).mp h) H locs ls hP hD hS hl) (fun h => kf (Int.not_le.mp fun z => h ((le_int hx hy).mpr z)) H locs ls hP hD hS hl)
/-! arrays -/
theorem j_bald (C : Kok D tys K cc nL own d) (q0 t0 : Nat) {a n i : Nat} {cA : ClassId} {f : Nat → Int32} {v : Int32} (hdg : decode cc pc = .ok (.baload, 1)) (ha : (w u)[q0]? = some (a, .inl (cA, n, .inl f))) (ht : tys[t0]? = some (cA, .byte)) (hi : i < n) (hn : n < 2147483648) (hv : f i = v) (k : J l D K w u (pc + 1) L (.int v :: st)) : J l D K w u pc L (.int (nI i) :: .ref a :: st) := by
  intro H locs ls hP hD hS hl
  refine va_bald C.1 C.2.1 C.2.2.2.2.2.1 hP q0 t0 ha ht (vp_in_nI hi (by omega)) hdg ?_
  rw [nI_cl (by omega), hv]
  exact k H locs ls hP hD hS hl
theorem j_zald (C : Kok D tys K cc nL own d) (q0 t0 : Nat) {a n i : Nat} {cA : ClassId} {f : Nat → Int32} {v : Int32} (hdg : decode cc pc = .ok (.baload, 1)) (ha : (w u)[q0]? = some (a, .inl (cA, n, .inl f))) (ht : tys[t0]? = some (cA, .boolean)) (hi : i < n) (hn : n < 2147483648) (hv : f i = v) (k : J l D K w u (pc + 1) L (.int v :: st)) : J l D K w u pc L (.int (nI i) :: .ref a :: st) := by
  intro H locs ls hP hD hS hl
  refine va_zald C.1 C.2.1 C.2.2.2.2.2.1 hP q0 t0 ha ht (vp_in_nI hi (by omega)) hdg ?_
  rw [nI_cl (by omega), hv]
  exact k H locs ls hP hD hS hl
theorem j_iald (C : Kok D tys K cc nL own d) (q0 t0 : Nat) {a n i : Nat} {cA : ClassId} {f : Nat → Int32} {v : Int32} (hdg : decode cc pc = .ok (.iaload, 1)) (ha : (w u)[q0]? = some (a, .inl (cA, n, .inl f))) (ht : tys[t0]? = some (cA, .int)) (hi : i < n) (hn : n < 2147483648) (hv : f i = v) (k : J l D K w u (pc + 1) L (.int v :: st)) : J l D K w u pc L (.int (nI i) :: .ref a :: st) := by
  intro H locs ls hP hD hS hl
  refine va_iald C.1 C.2.1 C.2.2.2.2.2.1 hP q0 t0 ha ht (vp_in_nI hi (by omega)) hdg ?_
  rw [nI_cl (by omega), hv]
  exact k H locs ls hP hD hS hl
theorem upd_fn {α : Type} (φ : α → Int32) (g : Nat → α) (i : Nat) (v : α) : upd (fun j => φ (g j)) i (φ v) = fun j => φ (va_up g i v j) := by
  funext j
  by_cases h : j = i
  · subst h
    simp [upd, va_up]
  · simp [upd, va_up, h]
theorem nar_byte {v : Nat} (h : v < 128) : vp_nar .byte (nI v) = nI v := by
  have : ∀ v, v < 128 → vp_nar .byte (nI v) = nI v := by decide +kernel
  exact this v h
theorem nar_bool {v : Nat} (h : v < 2) : vp_nar .boolean (nI v) = nI v := by
  have : ∀ v, v < 2 → vp_nar .boolean (nI v) = nI v := by decide +kernel
  exact this v h
theorem b_byte {v : Nat} (h : v < 128) : (nI v).toInt8.toInt32 = nI v := by
  have : ∀ v, v < 128 → (nI v).toInt8.toInt32 = nI v := by decide +kernel
  exact this v h
theorem j_bast (C : Kok D tys K cc nL own d) (q0 t0 : Nat) {a n i v : Nat} {cA : ClassId} {g : Nat → Nat} {u' : S} (hdg : decode cc pc = .ok (.bastore, 1)) (ha : (w u)[q0]? = some (a, .inl (cA, n, .inl (fun j => nI (g j))))) (ht : tys[t0]? = some (cA, .byte)) (hi : i < n) (hn : n < 2147483648) (hv : v < 128) (hu : (w u).set q0 (a, .inl (cA, n, .inl (fun j => nI (va_up g i v j)))) = w u') (k : J l D K w u' (pc + 1) L st) : J l D K w u pc L (.int (nI v) :: .int (nI i) :: .ref a :: st) := by
  intro H locs ls hP hD hS hl
  refine va_bast C.1 C.2.1 C.2.2.2.2.2.1 hP hD hS q0 t0 ha ht (vp_in_nI hi (by omega)) hdg (fun H1 locs1 h1 h2 h3 => ?_)
  rw [nI_cl (by omega), nar_byte hv, upd_fn, hu] at h1 h2
  exact k H1 locs1 ls h1 h2 h3 hl
theorem j_zast (C : Kok D tys K cc nL own d) (q0 t0 : Nat) {a n i v : Nat} {cA : ClassId} {g : Nat → Nat} {u' : S} (hdg : decode cc pc = .ok (.bastore, 1)) (ha : (w u)[q0]? = some (a, .inl (cA, n, .inl (fun j => nI (g j))))) (ht : tys[t0]? = some (cA, .boolean)) (hi : i < n) (hn : n < 2147483648) (hv : v < 2) (hu : (w u).set q0 (a, .inl (cA, n, .inl (fun j => nI (va_up g i v j)))) = w u') (k : J l D K w u' (pc + 1) L st) : J l D K w u pc L (.int (nI v) :: .int (nI i) :: .ref a :: st) := by
  intro H locs ls hP hD hS hl
  refine va_zast C.1 C.2.1 C.2.2.2.2.2.1 hP hD hS q0 t0 ha ht (vp_in_nI hi (by omega)) hdg (fun H1 locs1 h1 h2 h3 => ?_)
  rw [nI_cl (by omega), nar_bool hv, upd_fn, hu] at h1 h2
  exact k H1 locs1 ls h1 h2 h3 hl
theorem j_iast (C : Kok D tys K cc nL own d) (q0 t0 : Nat) {α : Type} (φ : α → Int32) {a n i : Nat} {v : α} {cA : ClassId} {g : Nat → α} {u' : S} (hdg : decode cc pc = .ok (.iastore, 1)) (ha : (w u)[q0]? = some (a, .inl (cA, n, .inl (fun j => φ (g j))))) (ht : tys[t0]? = some (cA, .int)) (hi : i < n) (hn : n < 2147483648) (hu : (w u).set q0 (a, .inl (cA, n, .inl (fun j => φ (va_up g i v j)))) = w u') (k : J l D K w u' (pc + 1) L st) : J l D K w u pc L (.int (φ v) :: .int (nI i) :: .ref a :: st) := by
  intro H locs ls hP hD hS hl
  refine va_iast C.1 C.2.1 C.2.2.2.2.2.1 hP hD hS q0 t0 ha ht (vp_in_nI hi (by omega)) hdg (fun H1 locs1 h1 h2 h3 => ?_)
  rw [nI_cl (by omega), upd_fn, hu] at h1 h2
  exact k H1 locs1 ls h1 h2 h3 hl
/-! fields of an object: class number ci, class C, its table T of N fields -/
theorem j_getf (C0 : Kok D tys K cc nL own d) (q0 k : Nat) {C : String} {T : u_T} {N ci index a : Nat} {fs : List Value} {v : Value} (hdg : decode cc pc = .ok (.getfield index, 3)) (hin : ∀ w ∈ u_ws C T N, w ∈ wk_tbl) (hT : ∀ k, (T k).1 = C) (hc : classes[ci]? = some (C, T, N)) (hk : k < N) (hl : Cond.fieldLink own index C (T k).2.1 (T k).2.2.1 ∈ wk_tbl) (he : (w u)[q0]? = some (a, .inr (ci, fs))) (hv : fs[k]? = some v) (kk : J l D K w u (pc + 3) L (v :: st)) : J l D K w u pc L (.ref a :: st) :=
  fun H locs ls hP hD hS hl' => va_get C0.1 C0.2.1 C0.2.2.2.2.1 hin C0.2.2.2.1 C0.2.2.2.2.2.1 hP q0 he hc k hk (C0.2.2.2.2.1 _ hl) (fun x h => by rw [hT k] at h; exact h) hv hdg (kk H locs ls hP hD hS hl')
theorem j_putf (C0 : Kok D tys K cc nL own d) (q0 k : Nat) {C : String} {T : u_T} {N ci index a : Nat} {fs : List Value} {x : Int32} {u' : S} (hdg : decode cc pc = .ok (.putfield index, 3)) (hin : ∀ w ∈ u_ws C T N, w ∈ wk_tbl) (ty0 : Nat → FieldType) (hty : ∀ k, k < N → parseFieldDescriptor (T k).2.2.1 = some (ty0 k)) (hnm : ∀ a, a < N → ∀ b, b < N → a ≠ b → (T a).2.1 ≠ (T b).2.1) (hT : ∀ k, (T k).1 = C) (hc : classes[ci]? = some (C, T, N)) (hk : k < N) (hl : Cond.fieldLink own index C (T k).2.1 (T k).2.2.1 ∈ wk_tbl) (hfin : (T k).2.2.2 = false) (hd : parseFieldDescriptor (T k).2.2.1 = some .int) (he : (w u)[q0]? = some (a, .inr (ci, fs))) (hlen : k < fs.length) (hu : (w u).set q0 (a, .inr (ci, fs.set k (.int x))) = w u') (kk : J l D K w u' (pc + 3) L st) : J l D K w u pc L (.int x :: .ref a :: st) := by
  intro H locs ls hP hD hS hl'
  refine va_put C0.1 C0.2.1 C0.2.2.2.2.1 hin ty0 hty hnm C0.2.2.2.1 C0.2.2.2.2.2.1 hP hD hS q0 he hc k hk (C0.2.2.2.2.1 _ hl) (fun x h => by rw [hT k] at h; exact h) hfin hd rfl rfl hlen hdg (fun H1 locs1 h1 h2 h3 => ?_)
  rw [hu] at h1 h2
  exact kk H1 locs1 ls h1 h2 h3 hl'
end JROWS
/-! ===== contracts ===== -/
/-- an answer that is an int (or a boolean) -/
def CI {S : Type} (l : Launch) (y : MethodName) (cc : ByteArray) (nL : Nat) (ty : FieldType) (d : Nat) (D : va_G) (tys : List (ClassId × FieldType)) (w : S → va_W) (u : S) (as : List Value) (post : Int32 → S → Prop) : Prop :=
  ∀ sz, Met l y (Cond.code y cc nL (some ty) :: wk_tbl) (rmD d) (va_Pc as (fun U => U.heap.size = sz ∧ va_P D classes (w u) U.heap ∧ va_K D classes tys U ∧ va_D (fun _ => True) (w u))) (va_Qi post (fun u' t => va_P D classes (w u') t.heap ∧ va_K D classes tys t ∧ va_D (va_A (w u) sz) (w u')) (va_A (w u) sz)) 0 0 (va_A (w u) sz)
def CV {S : Type} (l : Launch) (y : MethodName) (cc : ByteArray) (nL : Nat) (d : Nat) (D : va_G) (tys : List (ClassId × FieldType)) (w : S → va_W) (u : S) (as : List Value) (post : S → Prop) : Prop :=
  ∀ sz, Met l y (Cond.code y cc nL none :: wk_tbl) (rmD d) (va_Pc as (fun U => U.heap.size = sz ∧ va_P D classes (w u) U.heap ∧ va_K D classes tys U ∧ va_D (fun _ => True) (w u))) (va_Qv post (fun u' t => va_P D classes (w u') t.heap ∧ va_K D classes tys t ∧ va_D (va_A (w u) sz) (w u')) (va_A (w u) sz)) 0 0 (va_A (w u) sz)
section JCON
variable {S : Type} {l : Launch} {D : va_G} {tys : List (ClassId × FieldType)} {cc : ByteArray} {nL d n : Nat} {y : MethodName} {w : S → va_W} {u : S} {as : List Value}
theorem CI_of {ty : FieldType} {post : Int32 → S → Prop} (hok : yOK y cc nL (some ty) n) (hlen : as.length ≤ nL) (hcat : ∀ v ∈ as, v.category = 1)
    (body : ∀ K : Kc, Kok D tys K cc nL y.cls d → (∀ (r : Int32) (u' : S) (pc : Nat) (L : List Value), decode cc pc = .ok (.ireturn, 1) → narrow ty (.int r) = .int r → post r u' → J l D K w u' pc L [.int r]) → J l D K w u 0 as []) :
    CI l y cc nL ty d D tys w u as post := by
  intro sz
  refine Met.ofW (cc := cc) (maxL := nL) (ret := some ty) hok.2.2.2.2.2.2 rfl ?_
  intro p e s m args below meth c s₁ B hml hv
  obtain ⟨rfl, hsz, hP, hK, hD0⟩ := hv
  have hr := B.returns
  have hlk := B.notSynchronized
  have hts0 := atoms_spec (ws := Cond.code y cc nL (some ty) :: wk_tbl) B.pre
  have hts : ∀ w ∈ wk_tbl, w.before as.toArray s = true := fun w h => hts0 w (List.mem_cons_of_mem _ h)
  have hown : s.vm.findClass y.cls = some m.cls := findClass_of_methodNamed B.named
  subst hsz
  have hD := hD0.self (sz := s.heap.size)
  rw [lg_entry_eq]
  have hl0 := lv_entry as (n := nL) (by rw [lg_len as hcat]; exact hlen)
  rw [lv_args_ep as 0 hcat] at hl0
  have key : J l D ((p, e, rmD d, s), (m, as.toArray, below, meth, c), va_A (w u) s.heap.size, 0, 0, MQ below (va_Qi post (fun u' t => va_P D classes (w u') t.heap ∧ va_K D classes tys t ∧ va_D (va_A (w u) s.heap.size) (w u')) (va_A (w u) s.heap.size)) as.toArray s 0 0 (va_A (w u) s.heap.size)) w u 0 as [] := by
    refine body _ ⟨B.exec, B.bytes, hml, hown, hts, hK, fun q h => Or.inr h, ⟨Nat.le_refl _, Nat.le_refl _⟩, ⟨Nat.le_refl _, Nat.le_refl _⟩⟩ ?_
    intro r u' pc L hdg hn hpost H locs ls hP' hD' hS' hl'
    exact W.zret B.exec B.bytes hr hn (fun t ht hW => ⟨⟨r, u', rfl, hpost, by rw [ht]; exact hP', va_K.moved hW.alike hK, hD'⟩, hS'.F ht⟩) hS'.2.2 hdg hlk
  exact key s.heap [] _ hP hD va_S.rf ⟨by rw [hml]; exact hl0, hcat⟩
theorem CV_of {post : S → Prop} (hok : yOK y cc nL none n) (hlen : as.length ≤ nL) (hcat : ∀ v ∈ as, v.category = 1)
    (body : ∀ K : Kc, Kok D tys K cc nL y.cls d → (∀ (u' : S) (pc : Nat) (L : List Value), decode cc pc = .ok (.return_, 1) → post u' → J l D K w u' pc L []) → J l D K w u 0 as []) :
    CV l y cc nL d D tys w u as post := by
  intro sz
  refine Met.ofW (cc := cc) (maxL := nL) (ret := none) hok.2.2.2.2.2.2 rfl ?_
  intro p e s m args below meth c s₁ B hml hv
  obtain ⟨rfl, hsz, hP, hK, hD0⟩ := hv
  have hr := B.returns
  have hlk := B.notSynchronized
  have hts0 := atoms_spec (ws := Cond.code y cc nL none :: wk_tbl) B.pre
  have hts : ∀ w ∈ wk_tbl, w.before as.toArray s = true := fun w h => hts0 w (List.mem_cons_of_mem _ h)
  have hown : s.vm.findClass y.cls = some m.cls := findClass_of_methodNamed B.named
  subst hsz
  have hD := hD0.self (sz := s.heap.size)
  rw [lg_entry_eq]
  have hl0 := lv_entry as (n := nL) (by rw [lg_len as hcat]; exact hlen)
  rw [lv_args_ep as 0 hcat] at hl0
  have key : J l D ((p, e, rmD d, s), (m, as.toArray, below, meth, c), va_A (w u) s.heap.size, 0, 0, MQ below (va_Qv post (fun u' t => va_P D classes (w u') t.heap ∧ va_K D classes tys t ∧ va_D (va_A (w u) s.heap.size) (w u')) (va_A (w u) s.heap.size)) as.toArray s 0 0 (va_A (w u) s.heap.size)) w u 0 as [] := by
    refine body _ ⟨B.exec, B.bytes, hml, hown, hts, hK, fun q h => Or.inr h, ⟨Nat.le_refl _, Nat.le_refl _⟩, ⟨Nat.le_refl _, Nat.le_refl _⟩⟩ ?_
    intro u' pc L hdg hpost H locs ls hP' hD' hS' hl'
    exact W.vret B.exec B.bytes hr (fun t ht hW => ⟨⟨u', rfl, hpost, by rw [ht]; exact hP', va_K.moved hW.alike hK, hD'⟩, hS'.F ht⟩) hS'.2.2 hdg hlk
  exact key s.heap [] _ hP hD va_S.rf ⟨by rw [hml]; exact hl0, hcat⟩
end JCON
/-! ===== calls ===== -/
theorem gd_in {own : String} {idx n nL : Nat} {y : MethodName} {cc : ByteArray} {ret : Option FieldType} (hok : yOK y cc nL ret n) (hml : Cond.methodLink own idx y ∈ wk_tbl) : GoodIn wk_tbl (wsV own idx y.cls y (Cond.code y cc nL ret :: wk_tbl)) := by
  have key : ∀ w, w ∈ wk_tbl → w ∈ wk_tbl ∧ ((w.onTables && w.keeps) = true ∨ ∃ ty, w = .arrayClass ty) := fun w h => ⟨h, good_tbl w h⟩
  intro w hw
  unfold wsV at hw
  rcases List.mem_append.mp hw with hw | hw
  · simp only [List.mem_cons, List.not_mem_nil, or_false] at hw
    rcases hw with rfl | rfl | rfl | rfl
    · exact key _ hml
    · exact key _ hok.1
    · exact key _ hok.2.1
    · exact key _ hok.2.2.1
  · rcases List.mem_cons.mp hw with rfl | hw
    · exact key _ hok.2.2.2.1
    · exact key _ hw
section JCALL
variable {S : Type} {l : Launch} {D : va_G} {tys : List (ClassId × FieldType)} {K : Kc} {cc : ByteArray} {nL d : Nat} {own : String} {w : S → va_W} {u : S} {pc : Nat} {L st : List Value}
variable {y : MethodName} {cy : ByteArray} {ny dy n idx b ci : Nat} {As rest : List Value} {fs : List Value}
theorem call_cw {ret : Option FieldType} (C0 : Kok D tys K cc nL own d) (hok : yOK y cy ny ret n) (hml : Cond.methodLink own idx y ∈ wk_tbl) (hd : dy + 1 ≤ d) : CallW K.1.2.2.1 K.1.2.2.2 K.2.1.2.1 own y.cls idx y cy ny ret (Cond.code y cy ny ret :: wk_tbl) (rmD dy) 0 0 n := by
  have h1 := C0.2.2.2.2.2.2.2.1
  have h2 := hok.2.2.2.2.2.1
  refine cwV n C0.2.2.2.2.1 (gd_in hok hml) rfl rfl rfl ⟨rfl, hok.2.2.2.2.1⟩ ⟨?_, ?_⟩
  · show dy + 1 ≤ _
    omega
  · show 8 + (ny + 11) + 32 * dy ≤ _
    omega
/-- a call on an object of the whole world: an int comes back -/
theorem j_calli {ty : FieldType} {post : Int32 → S → Prop} (C0 : Kok D tys K cc nL own d) (hM : CI l y cy ny ty dy D tys w u (.ref b :: As) post) (hok : yOK y cy ny (some ty) n) (hml : Cond.methodLink own idx y ∈ wk_tbl) (hd : dy + 1 ≤ d) (hdg : decode cc pc = .ok (.invokevirtual idx, 3)) {q0 : Nat} {T : u_T} {N : Nat} (he : (w u)[q0]? = some (b, .inr (ci, fs))) (hc : classes[ci]? = some (y.cls, T, N)) (hn : As.length = n) (hst : st = As.reverse ++ .ref b :: rest) (hroom : (rest.map fun v => v.category).sum ≤ 8)
    (kk : ∀ (r : Int32) (u' : S), post r u' → J l D K w u' (pc + 3) L (.int r :: rest)) : J l D K w u pc L st := by
  intro H locs ls hP hD hS hl
  subst hst
  have hK := C0.2.2.2.2.2.1
  have hFc : ∀ q, va_A (w u) H.size q → K.2.2.1 q := by
    intro q h
    rcases h with ⟨k, e, h⟩ | h
    · exact hD.2 k (q, e) h
    · exact C0.2.2.2.2.2.2.1 q (Nat.le_trans hS.1 h)
  refine va_calli (A1 := va_A (w u) H.size) (va_runV (As := As) (rest := rest) ⟨C0.1, C0.2.1, C0.2.2.1, C0.2.2.2.1, C0.2.2.2.2.1⟩ (hM H.size) (call_cw C0 hok hml hd) ⟨fun a U g mk q => ?_, va_recv hK hP hc he, fun U hU hW => ⟨rfl, by rw [hU], by rw [hU]; exact hP, va_K.moved hW.alike hK, hD.weaken (fun _ _ _ _ => trivial)⟩⟩ rfl hn (by rw [← C0.2.2.1]; exact hl.1.1) rfl (lv_room hroom) hdg ⟨C0.2.2.2.2.2.2.2.2.1, C0.2.2.2.2.2.2.2.2.2⟩) hS (fun q _ h => hFc q h) hFc (fun r u' t H1 locs1 ht hvm hw hB hz1 hk1 hS1 => ?_)
  · obtain ⟨q0, q1, qP, qK, qD⟩ := q
    exact ⟨q0, q1, qP, va_K.moved (u := U) (U := U.calling g mk a) (Vm.Alike.refl U.vm) qK, qD⟩
  · obtain ⟨hP1, hK1, hD1⟩ := hB
    rw [ht] at hP1
    exact kk r u' hw H1 locs1 ls hP1 (hD1.weaken (fun _ q _ h => hFc q.1 h)) hS1 hl
theorem j_callv {post : S → Prop} (C0 : Kok D tys K cc nL own d) (hM : CV l y cy ny dy D tys w u (.ref b :: As) post) (hok : yOK y cy ny none n) (hml : Cond.methodLink own idx y ∈ wk_tbl) (hd : dy + 1 ≤ d) (hdg : decode cc pc = .ok (.invokevirtual idx, 3)) {q0 : Nat} {T : u_T} {N : Nat} (he : (w u)[q0]? = some (b, .inr (ci, fs))) (hc : classes[ci]? = some (y.cls, T, N)) (hn : As.length = n) (hst : st = As.reverse ++ .ref b :: rest) (hroom : (rest.map fun v => v.category).sum ≤ 8)
    (kk : ∀ (u' : S), post u' → J l D K w u' (pc + 3) L rest) : J l D K w u pc L st := by
  intro H locs ls hP hD hS hl
  subst hst
  have hK := C0.2.2.2.2.2.1
  have hFc : ∀ q, va_A (w u) H.size q → K.2.2.1 q := by
    intro q h
    rcases h with ⟨k, e, h⟩ | h
    · exact hD.2 k (q, e) h
    · exact C0.2.2.2.2.2.2.1 q (Nat.le_trans hS.1 h)
  refine va_callv (A1 := va_A (w u) H.size) (va_runV (As := As) (rest := rest) ⟨C0.1, C0.2.1, C0.2.2.1, C0.2.2.2.1, C0.2.2.2.2.1⟩ (hM H.size) (call_cw C0 hok hml hd) ⟨fun a U g mk q => ?_, va_recv hK hP hc he, fun U hU hW => ⟨rfl, by rw [hU], by rw [hU]; exact hP, va_K.moved hW.alike hK, hD.weaken (fun _ _ _ _ => trivial)⟩⟩ rfl hn (by rw [← C0.2.2.1]; exact hl.1.1) rfl (lv_room hroom) hdg ⟨C0.2.2.2.2.2.2.2.2.1, C0.2.2.2.2.2.2.2.2.2⟩) hS (fun q _ h => hFc q h) hFc (fun u' t H1 locs1 ht hvm hw hB hz1 hk1 hS1 => ?_)
  · obtain ⟨q0, q1, qP, qK, qD⟩ := q
    exact ⟨q0, q1, qP, va_K.moved (u := U) (U := U.calling g mk a) (Vm.Alike.refl U.vm) qK, qD⟩
  · obtain ⟨hP1, hK1, hD1⟩ := hB
    rw [ht] at hP1
    exact kk u' hw H1 locs1 ls hP1 (hD1.weaken (fun _ q _ h => hFc q.1 h)) hS1 hl
end JCALL
end
section
/-! ===== bits and masks ===== -/
/-- bit i of g, as a number -/
def tb (g i : Nat) : Nat := g / 2 ^ i % 2
theorem tb_lt (g i : Nat) : tb g i < 2147483648 := by unfold tb; omega
theorem tb_iff (g i : Nat) : tb g i = 1 ↔ g.testBit i = true := by
  rw [Nat.testBit_eq_decide_div_mod_eq]
  simp [tb]
theorem tb_t {g i : Nat} (h : ((tb g i : Nat) : Int) ≠ 0) : g.testBit i = true := by
  have h2 : tb g i < 2 := by unfold tb; omega
  exact (tb_iff g i).mp (by omega)
theorem tb_f {g i : Nat} (h : ((tb g i : Nat) : Int) = 0) : g.testBit i = false := by
  have h1 : ¬ tb g i = 1 := by omega
  rw [tb_iff] at h1
  simpa using h1
theorem tb_t1 {g i : Nat} (h : ((tb g i : Nat) : Int) = 1) : g.testBit i = true := (tb_iff g i).mp (by omega)
theorem tb_f1 {g i : Nat} (h : ((tb g i : Nat) : Int) ≠ 1) : g.testBit i = false := by
  have h1 : ¬ tb g i = 1 := by omega
  rw [tb_iff] at h1
  simpa using h1
theorem sh_l : ∀ n, n < 32 → ((nI n &&& 31).toBitVec.smod 32).toNat = n := by decide +kernel
theorem nI_shr {a i : Nat} (ha : a < 2147483648) (hi : i < 32) : nI a >>> (nI i &&& 31) = nI (a / 2 ^ i) := pk_shrN (by omega) _ i (sh_l i hi)
theorem nI_and1 {a : Nat} (ha : a < 2147483648) : nI a &&& nI 1 = nI (a % 2) := pk_andN (by omega) 1 (by decide)
theorem nI_bit {g i : Nat} (hg : g < 2147483648) : nI (g / 2 ^ i) &&& nI 1 = nI (tb g i) := nI_and1 (Nat.lt_of_le_of_lt (Nat.div_le_self _ _) hg)
theorem nI_and3 {a : Nat} (ha : a < 2147483648) : nI a &&& nI 3 = nI (a % 4) := pk_andN (by omega) 2 (by decide)
theorem nI_and1023 {a : Nat} (ha : a < 2147483648) : nI a &&& nI 1023 = nI (a % 1024) := pk_andN (by omega) 10 (by decide)
theorem nI_and15 (x : Int32) : ∃ j, j < 16 ∧ x &&& nI 15 = nI j := pk_andE x 4 (by decide)
theorem nI_shl {a i : Nat} (hi : i < 32) (h : a * 2 ^ i < 2147483648) : nI a <<< (nI i &&& 31) = nI (a * 2 ^ i) := pk_shlN _ i (sh_l i hi) (by omega)
theorem nI_shl1 {i : Nat} (hi : i < 31) : nI 1 <<< (nI i &&& 31) = nI (2 ^ i) := by
  have h : 2 ^ i ≤ 2 ^ 30 := Nat.pow_le_pow_right (by omega) (by omega)
  rw [nI_shl (by omega) (by omega), Nat.one_mul]
theorem nI_bv (a : Nat) : (nI a).toBitVec = BitVec.ofNat 32 a := rfl
theorem nI_and (a b : Nat) : nI a &&& nI b = nI (a &&& b) := by
  apply Int32.toBitVec.inj
  rw [Int32.toBitVec_and, nI_bv, nI_bv, nI_bv, BitVec.ofNat_and]
theorem nI_or (a b : Nat) : nI a ||| nI b = nI (a ||| b) := by
  apply Int32.toBitVec.inj
  rw [Int32.toBitVec_or, nI_bv, nI_bv, nI_bv, BitVec.ofNat_or]
/-- a without b -/
def dif (a b : Nat) : Nat := a &&& (b ^^^ 31)
theorem nI_dif {a b : Nat} (ha : a < 32) (hb : b < 32) : nI a &&& (nI b ^^^ (-1)) = nI (dif a b) := by
  have : ∀ a, a < 32 → ∀ b, b < 32 → nI a &&& (nI b ^^^ (-1)) = nI (dif a b) := by decide +kernel
  exact this a ha b hb
theorem hi_bit {a i : Nat} (ha : a < 32) (hi : 5 ≤ i) : a.testBit i = false := Nat.testBit_lt_two_pow (Nat.lt_of_lt_of_le ha (Nat.pow_le_pow_right (n := 2) (by omega) hi))
theorem lt5_of {a i : Nat} (ha : a < 32) (h : a.testBit i = true) : i < 5 := by
  rcases Nat.lt_or_ge i 5 with q | q
  · exact q
  · rw [hi_bit ha q] at h
    cases h
theorem dif_lt {a b : Nat} (ha : a < 32) : dif a b < 32 := Nat.lt_of_le_of_lt Nat.and_le_left ha
theorem dif_bit {a b i : Nat} (ha : a < 32) : (dif a b).testBit i = (a.testBit i && !b.testBit i) := by
  unfold dif
  rw [Nat.testBit_and, Nat.testBit_xor]
  rcases Nat.lt_or_ge i 5 with q | q
  · have : Nat.testBit 31 i = true := by
      have : ∀ i, i < 5 → Nat.testBit 31 i = true := by decide +kernel
      exact this i q
    rw [this]
    simp
  · rw [hi_bit ha q]
    simp
theorem or_lt {a b : Nat} (ha : a < 32) (hb : b < 32) : a ||| b < 32 := Nat.or_lt_two_pow (n := 5) ha hb
theorem pow_lt {i : Nat} (hi : i < 5) : 2 ^ i < 32 := by
  have : ∀ i, i < 5 → 2 ^ i < 32 := by decide +kernel
  exact this i hi
theorem one_bit (i j : Nat) : (2 ^ i).testBit j = decide (i = j) := Nat.testBit_two_pow
theorem bit_ext {a b : Nat} (ha : a < 32) (hb : b < 32) (h : ∀ i, i < 5 → a.testBit i = b.testBit i) : a = b := by
  apply Nat.eq_of_testBit_eq
  intro i
  rcases Nat.lt_or_ge i 5 with q | q
  · exact h i q
  · rw [hi_bit ha q, hi_bit hb q]
theorem bit_ne {a : Nat} (ha : a < 32) (h : a ≠ 0) : ∃ i, i < 5 ∧ a.testBit i = true := by
  refine Classical.byContradiction fun q => h ?_
  refine bit_ext ha (by decide) fun i hi => ?_
  have : ¬ a.testBit i = true := fun z => q ⟨i, hi, z⟩
  simpa using this
/-- a sum over the jobs of a mask -/
def sm (g : Nat) (f : Nat → Nat) : Nat := (if g.testBit 0 then f 0 else 0) + (if g.testBit 1 then f 1 else 0) + (if g.testBit 2 then f 2 else 0) + (if g.testBit 3 then f 3 else 0) + (if g.testBit 4 then f 4 else 0)
/-! ===== the two objects ===== -/
/-- capacity, cap, present, forced, forcedBy, pendingCount, blockEnd, arrays (1 releases, 2 lengths, 3 kinds, 4 dues, 5 weights, 6 follows, 7 ready, 8 pending) -/
abbrev SX : Type := Nat × Int × Nat × Int × Nat × Nat × Nat × (Nat → Nat → Nat)
def fsX (h : Nat → Nat) (u : SX) : List Value := [.int (nI u.1), .int (iI u.2.1), .int (nI u.2.2.1), .ref (h 1), .ref (h 2), .ref (h 3), .ref (h 4), .ref (h 5), .ref (h 6), .int (iI u.2.2.2.1), .int (nI u.2.2.2.2.1), .ref (h 7), .ref (h 8), .int (nI u.2.2.2.2.2.1), .int (nI u.2.2.2.2.2.2.1)]
def wX (h : Nat → Nat) (cs : Nat → ClassId) (u : SX) : va_W := [(h 0, .inr (0, fsX h u)), (h 1, .inl (cs 1, 5, .inl (fun j => nI (u.2.2.2.2.2.2.2 1 j)))), (h 2, .inl (cs 2, 5, .inl (fun j => nI (u.2.2.2.2.2.2.2 2 j)))), (h 3, .inl (cs 3, 5, .inl (fun j => nI (u.2.2.2.2.2.2.2 3 j)))), (h 4, .inl (cs 4, 5, .inl (fun j => nI (u.2.2.2.2.2.2.2 4 j)))), (h 5, .inl (cs 5, 5, .inl (fun j => nI (u.2.2.2.2.2.2.2 5 j)))), (h 6, .inl (cs 6, 5, .inl (fun j => nI (u.2.2.2.2.2.2.2 6 j)))), (h 7, .inl (cs 7, 5, .inl (fun j => nI (u.2.2.2.2.2.2.2 7 j)))), (h 8, .inl (cs 8, 16, .inl (fun j => nI (u.2.2.2.2.2.2.2 8 j))))]
def tysX (cs : Nat → ClassId) : List (ClassId × FieldType) := [(cs 1, .byte), (cs 2, .byte), (cs 3, .byte), (cs 4, .byte), (cs 5, .byte), (cs 6, .byte), (cs 7, .byte), (cs 8, .byte)]
/-- most, limit, full, firstDone, mustId, mustBy, arrays (1 held, 2 rel, 3 len, 4 rule, 5 dueBy, 6 heavy, 7 pre), best -/
abbrev SM : Type := Nat × Int × Nat × Int × Int × Nat × (Nat → Nat → Nat) × (Nat → Int)
def fsM (h : Nat → Nat) (u : SM) : List Value := [.int (nI u.1), .int (iI u.2.1), .ref (h 1), .ref (h 2), .ref (h 3), .ref (h 4), .ref (h 5), .ref (h 6), .ref (h 7), .ref (h 8), .int (nI u.2.2.1), .int (iI u.2.2.2.1), .int (iI u.2.2.2.2.1), .int (nI u.2.2.2.2.2.1)]
def wM (h : Nat → Nat) (cs : Nat → ClassId) (u : SM) : va_W := [(h 0, .inr (1, fsM h u)), (h 1, .inl (cs 1, 5, .inl (fun j => nI (u.2.2.2.2.2.2.1 1 j)))), (h 2, .inl (cs 2, 5, .inl (fun j => nI (u.2.2.2.2.2.2.1 2 j)))), (h 3, .inl (cs 3, 5, .inl (fun j => nI (u.2.2.2.2.2.2.1 3 j)))), (h 4, .inl (cs 4, 5, .inl (fun j => nI (u.2.2.2.2.2.2.1 4 j)))), (h 5, .inl (cs 5, 5, .inl (fun j => nI (u.2.2.2.2.2.2.1 5 j)))), (h 6, .inl (cs 6, 5, .inl (fun j => nI (u.2.2.2.2.2.2.1 6 j)))), (h 7, .inl (cs 7, 5, .inl (fun j => nI (u.2.2.2.2.2.2.1 7 j)))), (h 8, .inl (cs 8, 1024, .inl (fun j => iI (u.2.2.2.2.2.2.2 j))))]
def tysM (cs : Nat → ClassId) : List (ClassId × FieldType) := [(cs 1, .boolean), (cs 2, .int), (cs 3, .int), (cs 4, .int), (cs 5, .int), (cs 6, .int), (cs 7, .int), (cs 8, .int)]
section XROWS
variable {l : Launch} {D : va_G} {K : Kc} {cc : ByteArray} {nL d : Nat} {pc : Nat} {L st : List Value} {h : Nat → Nat} {cs : Nat → ClassId}
theorem x_get (C : Kok D (tysX cs) K cc nL R_X d) (k : Nat) {u : SX} {index : Nat} {v : Value} (hdg : decode cc pc = .ok (.getfield index, 3)) (hk : k < 15) (hl : Cond.fieldLink R_X index R_X (F_X k).2.1 (F_X k).2.2.1 ∈ wk_tbl) (hv : (fsX h u)[k]? = some v) (kk : J l D K (wX h cs) u (pc + 3) L (v :: st)) : J l D K (wX h cs) u pc L (.ref (h 0) :: st) :=
  j_getf C 0 k hdg i_X F_X_cls rfl hk hl rfl hv kk
theorem x_put (C : Kok D (tysX cs) K cc nL R_X d) (k : Nat) {u u' : SX} {index : Nat} {x : Int32} (hdg : decode cc pc = .ok (.putfield index, 3)) (hk : k < 15) (hl : Cond.fieldLink R_X index R_X (F_X k).2.1 (F_X k).2.2.1 ∈ wk_tbl) (hfin : (F_X k).2.2.2 = false) (hd : t_X k = .int) (hu : (wX h cs u).set 0 (h 0, .inr (0, (fsX h u).set k (.int x))) = wX h cs u') (kk : J l D K (wX h cs) u' (pc + 3) L st) : J l D K (wX h cs) u pc L (.int x :: .ref (h 0) :: st) :=
  j_putf C 0 k hdg i_X t_X t_X_ok n_X F_X_cls rfl hk hl hfin (by rw [t_X_ok k hk, hd]) rfl (by show k < 15; exact hk) hu kk
theorem m_get (C : Kok D (tysM cs) K cc nL R_M d) (k : Nat) {u : SM} {index : Nat} {v : Value} (hdg : decode cc pc = .ok (.getfield index, 3)) (hk : k < 14) (hl : Cond.fieldLink R_M index R_M (F_M k).2.1 (F_M k).2.2.1 ∈ wk_tbl) (hv : (fsM h u)[k]? = some v) (kk : J l D K (wM h cs) u (pc + 3) L (v :: st)) : J l D K (wM h cs) u pc L (.ref (h 0) :: st) :=
  j_getf C 0 k hdg i_M F_M_cls rfl hk hl rfl hv kk
theorem m_put (C : Kok D (tysM cs) K cc nL R_M d) (k : Nat) {u u' : SM} {index : Nat} {x : Int32} (hdg : decode cc pc = .ok (.putfield index, 3)) (hk : k < 14) (hl : Cond.fieldLink R_M index R_M (F_M k).2.1 (F_M k).2.2.1 ∈ wk_tbl) (hfin : (F_M k).2.2.2 = false) (hd : t_M k = .int) (hu : (wM h cs u).set 0 (h 0, .inr (1, (fsM h u).set k (.int x))) = wM h cs u') (kk : J l D K (wM h cs) u' (pc + 3) L st) : J l D K (wM h cs) u pc L (.int x :: .ref (h 0) :: st) :=
  j_putf C 0 k hdg i_M t_M t_M_ok n_M F_M_cls rfl hk hl hfin (by rw [t_M_ok k hk, hd]) rfl (by show k < 14; exact hk) hu kk
end XROWS
end
section
theorem cat_all {as : List Value} (h : as.all (fun v => v.category == 1) = true) : ∀ v ∈ as, v.category = 1 := fun v hv => by simpa using List.all_eq_true.mp h v hv
theorem of_rng {x : Int32} {n : Nat} (h0 : 0 ≤ x.toInt) (h1 : x.toInt < n) : ∃ j, j < n ∧ x = nI j := by
  refine ⟨x.toInt.toNat, by omega, Int32.toInt_inj.mp ?_⟩
  have := Int32.toInt_lt x
  rw [nI_toInt (by omega)]
  omega
theorem nI_dec (n : Nat) : nI n + Int32.ofInt (-1) = iI ((n : Int) - 1) := by rw [nI_iI]; exact iI_add _ _
theorem nI_inj {a b : Nat} (ha : a < 2147483648) (hb : b < 2147483648) (h : nI a = nI b) : a = b := (nI_eq (by omega) (by omega)).mp h
/-- job x is held -/
def hld (cp pr : Nat) (x : Int32) : Prop := ∃ j, j < cp ∧ x = nI j ∧ pr.testBit j = true
theorem hld_n {cp pr j : Nat} (hcp : cp ≤ 5) (hj : j < 2147483648) (h : hld cp pr (nI j)) : j < cp ∧ pr.testBit j = true := by
  obtain ⟨i, h1, h2, h3⟩ := h
  have := nI_inj hj (by omega) h2
  subst this
  exact ⟨h1, h3⟩
theorem d_X_holds_0 : decode b_X_holds 0 = .ok (.iload_n 1, 1) := by decide +kernel
theorem d_X_holds_1 : decode b_X_holds 1 = .ok (.ifCond .lt 26, 3) := by decide +kernel
theorem d_X_holds_4 : decode b_X_holds 4 = .ok (.iload_n 1, 1) := by decide +kernel
theorem d_X_holds_5 : decode b_X_holds 5 = .ok (.aload_n 0, 1) := by decide +kernel
theorem d_X_holds_6 : decode b_X_holds 6 = .ok (.getfield 38, 3) := by decide +kernel
theorem d_X_holds_9 : decode b_X_holds 9 = .ok (.if_icmp .ge 18, 3) := by decide +kernel
theorem d_X_holds_12 : decode b_X_holds 12 = .ok (.aload_n 0, 1) := by decide +kernel
theorem d_X_holds_13 : decode b_X_holds 13 = .ok (.getfield 56, 3) := by decide +kernel
theorem d_X_holds_16 : decode b_X_holds 16 = .ok (.iload_n 1, 1) := by decide +kernel
theorem d_X_holds_17 : decode b_X_holds 17 = .ok (.ishr, 1) := by decide +kernel
theorem d_X_holds_18 : decode b_X_holds 18 = .ok (.iconst 1, 1) := by decide +kernel
theorem d_X_holds_19 : decode b_X_holds 19 = .ok (.iand, 1) := by decide +kernel
theorem d_X_holds_20 : decode b_X_holds 20 = .ok (.ifCond .eq 7, 3) := by decide +kernel
theorem d_X_holds_23 : decode b_X_holds 23 = .ok (.iconst 1, 1) := by decide +kernel
theorem d_X_holds_24 : decode b_X_holds 24 = .ok (.goto 4, 3) := by decide +kernel
theorem d_X_holds_27 : decode b_X_holds 27 = .ok (.iconst 0, 1) := by decide +kernel
theorem d_X_holds_28 : decode b_X_holds 28 = .ok (.ireturn, 1) := by decide +kernel
set_option maxHeartbeats 4000000 in
set_option maxRecDepth 100000 in
/-- holds(x) -/
theorem c_X_holds (l : Launch) (D : va_G) (h : Nat → Nat) (cs : Nat → ClassId) {cp : Nat} {cap : Int} {pr : Nat} {fo : Int} {fb pn be : Nat} {N : Nat → Nat → Nat} (hcp : cp ≤ 5) (hpr : pr < 32) (x : Int32) : CI l y_X_holds b_X_holds 2 .boolean 0 D (tysX cs) (wX h cs) (cp, cap, pr, fo, fb, pn, be, N) [.ref (h 0), .int x] (fun r u' => u' = (cp, cap, pr, fo, fb, pn, be, N) ∧ ((r = nI 1 ∧ hld cp pr x) ∨ (r = nI 0 ∧ ¬ hld cp pr x))) := by
  refine CI_of ok_X_holds (Nat.le_of_ble_eq_true rfl) (cat_all rfl) ?_
  intro K C hret
  have C : Kok D (tysX cs) K b_X_holds 2 R_X 0 := C
  refine j_iload_n C d_X_holds_0 (x := x) rfl ?_
  refine j_if_lt C d_X_holds_1 (tgt := 27) (by decide) (rfl) (fun c_1 => ?_) (fun c_1 => ?_)
  · refine j_iconst C d_X_holds_27 (v := nI 0) (by decide) ?_
    exact hret _ _ _ _ d_X_holds_28 rfl ⟨rfl, Or.inr ⟨rfl, fun q => by first | (obtain ⟨i, h1, rfl, h3⟩ := q; rw [tI i (by omega)] at *; omega) | (have := (hld_n hcp (by omega) q).2; rw [b_20] at this; cases this)⟩⟩
  · refine j_iload_n C d_X_holds_4 (x := x) rfl ?_
    refine j_aload_n C d_X_holds_5 (a := h 0) rfl ?_
    refine x_get C 0 (v := .int (nI cp)) d_X_holds_6 (by decide) fl_X_0 rfl ?_
    refine j_icmp_ge C d_X_holds_9 (tgt := 27) (by decide) (rfl) (tI cp (by omega)) (fun c_9 => ?_) (fun c_9 => ?_)
    · refine j_iconst C d_X_holds_27 (v := nI 0) (by decide) ?_
      exact hret _ _ _ _ d_X_holds_28 rfl ⟨rfl, Or.inr ⟨rfl, fun q => by first | (obtain ⟨i, h1, rfl, h3⟩ := q; rw [tI i (by omega)] at *; omega) | (have := (hld_n hcp (by omega) q).2; rw [b_20] at this; cases this)⟩⟩
    · obtain ⟨j, hj, rfl⟩ := of_rng c_1 c_9
      refine j_aload_n C d_X_holds_12 (a := h 0) rfl ?_
      refine x_get C 2 (v := .int (nI pr)) d_X_holds_13 (by decide) fl_X_2 rfl ?_
      refine j_iload_n C d_X_holds_16 (x := nI j) rfl ?_
      refine j_ishr C d_X_holds_17 (z := nI (pr / 2 ^ j)) (nI_shr (by omega) (by omega)) ?_
      refine j_iconst C d_X_holds_18 (v := nI 1) (by decide) ?_
      refine j_iand C d_X_holds_19 (z := nI (tb pr j)) (nI_bit (by omega)) ?_
      refine j_if_eq C d_X_holds_20 (tgt := 27) (by decide) (tI _ (tb_lt _ _)) (fun c_20 => ?_) (fun c_20 => ?_)
      · have b_20 : Nat.testBit pr j = false := tb_f c_20
        refine j_iconst C d_X_holds_27 (v := nI 0) (by decide) ?_
        exact hret _ _ _ _ d_X_holds_28 rfl ⟨rfl, Or.inr ⟨rfl, fun q => by first | (obtain ⟨i, h1, rfl, h3⟩ := q; rw [tI i (by omega)] at *; omega) | (have := (hld_n hcp (by omega) q).2; rw [b_20] at this; cases this)⟩⟩
      · have b_20 : Nat.testBit pr j = true := tb_t c_20
        refine j_iconst C d_X_holds_23 (v := nI 1) (by decide) ?_
        refine j_goto C d_X_holds_24 (tgt := 28) (by decide) ?_
        exact hret _ _ _ _ d_X_holds_28 rfl ⟨rfl, Or.inl ⟨rfl, j, hj, rfl, b_20⟩⟩
end
section
/-! ===== plain words: costs, loops, blocks ===== -/
theorem up_ind {P : Nat → Prop} (e : Nat) (h : ∀ i, i ≤ e → (i < e → P (i + 1)) → P i) : ∀ i, i ≤ e → P i := by
  have key : ∀ n i, i + n = e → P i := by
    intro n
    induction n with
    | zero => intro i hi; exact h i (by omega) (fun q => by omega)
    | succ n ih => intro i hi; exact h i (by omega) (fun _ => ih (i + 1) (by omega))
  exact fun i hi => key (e - i) i (by omega)
/-- the rule's cost: kind k, due d, weight w, at time t -/
def cst (k d w t : Nat) : Int := if k = 1 then (w : Int) * ((t : Int) - (d : Int)) else if (t : Int) - (d : Int) ≤ 0 then 0 else if k = 0 then (w : Int) * ((t : Int) - (d : Int)) else if k = 2 then 20 * (w : Int) else 1000
theorem mul_bd {w : Nat} {x a b : Int} (hw : w ≤ 5) (ha : a ≤ x) (hb : x ≤ b) (ha0 : a ≤ 0) (hb0 : 0 ≤ b) : 5 * a ≤ (w : Int) * x ∧ (w : Int) * x ≤ 5 * b := by
  have hc : w = 0 ∨ w = 1 ∨ w = 2 ∨ w = 3 ∨ w = 4 ∨ w = 5 := by omega
  rcases hc with rfl | rfl | rfl | rfl | rfl | rfl <;> omega
theorem cst_bd {k d w t : Nat} (hd : d ≤ 30) (hw : w ≤ 5) (ht : t ≤ 60) : -150 ≤ cst k d w t ∧ cst k d w t ≤ 1000 := by
  have := mul_bd (w := w) (x := (t : Int) - (d : Int)) (a := -30) (b := 60) hw (by omega) (by omega) (by omega) (by omega)
  unfold cst
  split
  · omega
  · split
    · omega
    · split
      · omega
      · split <;> omega
theorem mul_mono {w : Nat} {x y : Int} (h : x ≤ y) : (w : Int) * x ≤ (w : Int) * y := Int.mul_le_mul_of_nonneg_left h (by omega)
theorem cst_mono {k d w t t' : Nat} (hw : w ≤ 5) (h : t ≤ t') : cst k d w t ≤ cst k d w t' := by
  have h1 := mul_mono (w := w) (x := (t : Int) - (d : Int)) (y := (t' : Int) - (d : Int)) (by omega)
  unfold cst
  by_cases hk : k = 1
  · rw [if_pos hk, if_pos hk]; exact h1
  · rw [if_neg hk, if_neg hk]
    by_cases hz : (t : Int) - (d : Int) ≤ 0
    · rw [if_pos hz]
      by_cases hz' : (t' : Int) - (d : Int) ≤ 0
      · rw [if_pos hz']; omega
      · rw [if_neg hz']
        split
        · exact Int.mul_nonneg (by omega) (by omega)
        · split <;> omega
    · have hz' : ¬ ((t' : Int) - (d : Int) ≤ 0) := by omega
      rw [if_neg hz, if_neg hz']
      by_cases h0 : k = 0
      · rw [if_pos h0, if_pos h0]; exact h1
      · rw [if_neg h0, if_neg h0]
        split <;> omega
/-- the cost that counts at the moment -/
def cnow (N : Nat → Nat → Nat) (fo : Int) (fb i t : Nat) : Int := if (i : Int) = fo ∧ fb < t then 100000 else cst (N 3 i) (N 4 i) (N 5 i) t
/-- the arrays' ranges -/
def okN (N : Nat → Nat → Nat) : Prop := ∀ j, j < 5 → N 1 j ≤ 18 ∧ N 2 j ≤ 3 ∧ N 3 j ≤ 3 ∧ N 4 j ≤ 30 ∧ N 5 j ≤ 5 ∧ N 6 j < 32
theorem cnow_bd {N : Nat → Nat → Nat} {fo : Int} {fb i t : Nat} (hN : okN N) (hi : i < 5) (ht : t ≤ 60) : -150 ≤ cnow N fo fb i t ∧ cnow N fo fb i t ≤ 100000 := by
  obtain ⟨-, -, -, h4, h5, -⟩ := hN i hi
  have := cst_bd (k := N 3 i) h4 h5 ht
  unfold cnow
  split <;> omega
theorem cnow_mono {N : Nat → Nat → Nat} {fo : Int} {fb i t t' : Nat} (hN : okN N) (hi : i < 5) (h : t ≤ t') (ht : t' ≤ 60) : cnow N fo fb i t ≤ cnow N fo fb i t' := by
  obtain ⟨-, -, -, h4, h5, -⟩ := hN i hi
  have h1 := cst_mono (k := N 3 i) (d := N 4 i) h5 h
  have h2 := cst_bd (k := N 3 i) h4 h5 (t := t) (by omega)
  unfold cnow
  by_cases hc : (i : Int) = fo ∧ fb < t
  · rw [if_pos hc, if_pos ⟨hc.1, by omega⟩]; omega
  · rw [if_neg hc]
    split
    · omega
    · exact h1
/-- what the search for the earliest job knows behind i jobs -/
def eoP (g : Nat) (rd : Nat → Nat) (i : Nat) (b : Int) : Prop := (b = -1 ∧ ∀ j, j < i → g.testBit j = false) ∨ ∃ m : Nat, b = (m : Int) ∧ m < i ∧ g.testBit m = true ∧ ∀ j, j < i → g.testBit j = true → rd m ≤ rd j
theorem eoP_0 (g : Nat) (rd : Nat → Nat) : eoP g rd 0 (-1) := Or.inl ⟨rfl, fun j h => by omega⟩
theorem lt_succ_cases {j i : Nat} (h : j < i + 1) : j < i ∨ j = i := by omega
theorem eoP_skip {g : Nat} {rd : Nat → Nat} {i : Nat} {b : Int} (h : eoP g rd i b) (hb : g.testBit i = false) : eoP g rd (i + 1) b := by
  rcases h with ⟨h1, h2⟩ | ⟨m, h1, h2, h3, h4⟩
  · refine Or.inl ⟨h1, fun j hj => ?_⟩
    rcases lt_succ_cases hj with q | rfl
    · exact h2 j q
    · exact hb
  · refine Or.inr ⟨m, h1, by omega, h3, fun j hj hg => ?_⟩
    rcases lt_succ_cases hj with q | rfl
    · exact h4 j q hg
    · rw [hb] at hg; cases hg
theorem eoP_keep {g : Nat} {rd : Nat → Nat} {i m : Nat} (h : eoP g rd i (m : Int)) (hr : rd m ≤ rd i) : eoP g rd (i + 1) (m : Int) := by
  rcases h with ⟨h1, h2⟩ | ⟨m', h1, h2, h3, h4⟩
  · omega
  · have : m' = m := by omega
    subst this
    refine Or.inr ⟨m', h1, by omega, h3, fun j hj hg => ?_⟩
    rcases lt_succ_cases hj with q | rfl
    · exact h4 j q hg
    · exact hr
theorem eoP_first {g : Nat} {rd : Nat → Nat} {i : Nat} {b : Int} (h : eoP g rd i b) (hb : b < 0) (hg : g.testBit i = true) : eoP g rd (i + 1) (i : Int) := by
  rcases h with ⟨h1, h2⟩ | ⟨m', h1, h2, h3, h4⟩
  · refine Or.inr ⟨i, rfl, by omega, hg, fun j hj hgj => ?_⟩
    rcases lt_succ_cases hj with q | rfl
    · rw [h2 j q] at hgj; cases hgj
    · exact Nat.le_refl _
  · omega
theorem eoP_better {g : Nat} {rd : Nat → Nat} {i m : Nat} (h : eoP g rd i (m : Int)) (hr : rd i < rd m) (hg : g.testBit i = true) : eoP g rd (i + 1) (i : Int) := by
  rcases h with ⟨h1, h2⟩ | ⟨m', h1, h2, h3, h4⟩
  · omega
  · have : m' = m := by omega
    subst this
    refine Or.inr ⟨i, rfl, by omega, hg, fun j hj hgj => ?_⟩
    rcases lt_succ_cases hj with q | rfl
    · have := h4 j q hgj; omega
    · exact Nat.le_refl _
theorem eoP_pos {g : Nat} {rd : Nat → Nat} {i : Nat} {b : Int} (h : eoP g rd i b) (hb : 0 ≤ b) : ∃ m : Nat, b = (m : Int) ∧ m < i := by
  rcases h with ⟨h1, h2⟩ | ⟨m', h1, h2, h3, h4⟩
  · omega
  · exact ⟨m', h1, h2⟩
theorem eoP_bd {g : Nat} {rd : Nat → Nat} {i : Nat} {b : Int} (h : eoP g rd i b) (hi : i ≤ 5) : -1 ≤ b ∧ b < 5 := by
  rcases h with ⟨h1, h2⟩ | ⟨m', h1, h2, h3, h4⟩ <;> omega
end
section
theorem d_X_ruled_0 : decode b_X_ruled 0 = .ok (.iload_n 2, 1) := by decide +kernel
theorem d_X_ruled_1 : decode b_X_ruled 1 = .ok (.aload_n 0, 1) := by decide +kernel
theorem d_X_ruled_2 : decode b_X_ruled 2 = .ok (.getfield 19, 3) := by decide +kernel
theorem d_X_ruled_5 : decode b_X_ruled 5 = .ok (.iload_n 1, 1) := by decide +kernel
theorem d_X_ruled_6 : decode b_X_ruled 6 = .ok (.baload, 1) := by decide +kernel
theorem d_X_ruled_7 : decode b_X_ruled 7 = .ok (.isub, 1) := by decide +kernel
theorem d_X_ruled_8 : decode b_X_ruled 8 = .ok (.istore_n 3, 1) := by decide +kernel
theorem d_X_ruled_9 : decode b_X_ruled 9 = .ok (.aload_n 0, 1) := by decide +kernel
theorem d_X_ruled_10 : decode b_X_ruled 10 = .ok (.getfield 16, 3) := by decide +kernel
theorem d_X_ruled_13 : decode b_X_ruled 13 = .ok (.iload_n 1, 1) := by decide +kernel
theorem d_X_ruled_14 : decode b_X_ruled 14 = .ok (.baload, 1) := by decide +kernel
theorem d_X_ruled_15 : decode b_X_ruled 15 = .ok (.istore 4, 2) := by decide +kernel
theorem d_X_ruled_17 : decode b_X_ruled 17 = .ok (.iload 4, 2) := by decide +kernel
theorem d_X_ruled_19 : decode b_X_ruled 19 = .ok (.iconst 1, 1) := by decide +kernel
theorem d_X_ruled_20 : decode b_X_ruled 20 = .ok (.if_icmp .ne 12, 3) := by decide +kernel
theorem d_X_ruled_23 : decode b_X_ruled 23 = .ok (.aload_n 0, 1) := by decide +kernel
theorem d_X_ruled_24 : decode b_X_ruled 24 = .ok (.getfield 22, 3) := by decide +kernel
theorem d_X_ruled_27 : decode b_X_ruled 27 = .ok (.iload_n 1, 1) := by decide +kernel
theorem d_X_ruled_28 : decode b_X_ruled 28 = .ok (.baload, 1) := by decide +kernel
theorem d_X_ruled_29 : decode b_X_ruled 29 = .ok (.iload_n 3, 1) := by decide +kernel
theorem d_X_ruled_30 : decode b_X_ruled 30 = .ok (.imul, 1) := by decide +kernel
theorem d_X_ruled_31 : decode b_X_ruled 31 = .ok (.ireturn, 1) := by decide +kernel
theorem d_X_ruled_32 : decode b_X_ruled 32 = .ok (.iload_n 3, 1) := by decide +kernel
theorem d_X_ruled_33 : decode b_X_ruled 33 = .ok (.ifCond .gt 5, 3) := by decide +kernel
theorem d_X_ruled_36 : decode b_X_ruled 36 = .ok (.iconst 0, 1) := by decide +kernel
theorem d_X_ruled_37 : decode b_X_ruled 37 = .ok (.ireturn, 1) := by decide +kernel
theorem d_X_ruled_38 : decode b_X_ruled 38 = .ok (.iload 4, 2) := by decide +kernel
theorem d_X_ruled_40 : decode b_X_ruled 40 = .ok (.ifCond .ne 12, 3) := by decide +kernel
theorem d_X_ruled_43 : decode b_X_ruled 43 = .ok (.aload_n 0, 1) := by decide +kernel
theorem d_X_ruled_44 : decode b_X_ruled 44 = .ok (.getfield 22, 3) := by decide +kernel
theorem d_X_ruled_47 : decode b_X_ruled 47 = .ok (.iload_n 1, 1) := by decide +kernel
theorem d_X_ruled_48 : decode b_X_ruled 48 = .ok (.baload, 1) := by decide +kernel
theorem d_X_ruled_49 : decode b_X_ruled 49 = .ok (.iload_n 3, 1) := by decide +kernel
theorem d_X_ruled_50 : decode b_X_ruled 50 = .ok (.imul, 1) := by decide +kernel
theorem d_X_ruled_51 : decode b_X_ruled 51 = .ok (.ireturn, 1) := by decide +kernel
theorem d_X_ruled_52 : decode b_X_ruled 52 = .ok (.iload 4, 2) := by decide +kernel
theorem d_X_ruled_54 : decode b_X_ruled 54 = .ok (.iconst 2, 1) := by decide +kernel
theorem d_X_ruled_55 : decode b_X_ruled 55 = .ok (.if_icmp .ne 15, 3) := by decide +kernel
theorem d_X_ruled_58 : decode b_X_ruled 58 = .ok (.bipush 20, 2) := by decide +kernel
theorem d_X_ruled_60 : decode b_X_ruled 60 = .ok (.aload_n 0, 1) := by decide +kernel
theorem d_X_ruled_61 : decode b_X_ruled 61 = .ok (.getfield 22, 3) := by decide +kernel
theorem d_X_ruled_64 : decode b_X_ruled 64 = .ok (.iload_n 1, 1) := by decide +kernel
theorem d_X_ruled_65 : decode b_X_ruled 65 = .ok (.baload, 1) := by decide +kernel
theorem d_X_ruled_66 : decode b_X_ruled 66 = .ok (.imul, 1) := by decide +kernel
theorem d_X_ruled_67 : decode b_X_ruled 67 = .ok (.goto 6, 3) := by decide +kernel
theorem d_X_ruled_70 : decode b_X_ruled 70 = .ok (.sipush 1000, 3) := by decide +kernel
theorem d_X_ruled_73 : decode b_X_ruled 73 = .ok (.ireturn, 1) := by decide +kernel
set_option maxHeartbeats 4000000 in
set_option maxRecDepth 100000 in
/-- ruled(i, t) -/
theorem c_X_ruled (l : Launch) (D : va_G) (h : Nat → Nat) (cs : Nat → ClassId) {cp : Nat} {cap : Int} {pr : Nat} {fo : Int} {fb pn be : Nat} {N : Nat → Nat → Nat} (hN : okN N) {i t : Nat} (hi : i < 5) (ht : t ≤ 60) : CI l y_X_ruled b_X_ruled 5 .int 0 D (tysX cs) (wX h cs) (cp, cap, pr, fo, fb, pn, be, N) [.ref (h 0), .int (nI i), .int (nI t)] (fun r u' => u' = (cp, cap, pr, fo, fb, pn, be, N) ∧ r = iI (cst (N 3 i) (N 4 i) (N 5 i) t)) := by
  refine CI_of ok_X_ruled (Nat.le_of_ble_eq_true rfl) (cat_all rfl) ?_
  intro K C hret
  have C : Kok D (tysX cs) K b_X_ruled 5 R_X 0 := C
  obtain ⟨-, -, h3, h4, h5, -⟩ := hN i hi
  have hm := mul_bd (w := N 5 i) (x := (t : Int) - (N 4 i : Int)) (a := -30) (b := 60) h5 (by omega) (by omega) (by omega) (by omega)
  refine j_iload_n C d_X_ruled_0 (x := nI t) rfl ?_
  refine j_aload_n C d_X_ruled_1 (a := h 0) rfl ?_
  refine x_get C 6 (v := .ref (h 4)) d_X_ruled_2 (by decide) fl_X_6 rfl ?_
  refine j_iload_n C d_X_ruled_5 (x := nI i) rfl ?_
  refine j_bald C 4 3 (f := fun ξ => nI ((N 4) ξ)) (i := i) (v := nI (N 4 i)) d_X_ruled_6 rfl rfl (by omega) (by decide) rfl ?_
  refine j_isub C d_X_ruled_7 (z := iI ((t : Int) - ((N 4 i) : Int))) (nI_subI _ _) ?_
  refine j_istore_n C d_X_ruled_8 (Nat.le_of_ble_eq_true rfl) (Nat.le_of_ble_eq_true rfl) (L' := [.ref (h 0), .int (nI i), .int (nI t), .int (iI ((t : Int) - ((N 4 i) : Int)))]) rfl ?_
  refine j_aload_n C d_X_ruled_9 (a := h 0) rfl ?_
  refine x_get C 5 (v := .ref (h 3)) d_X_ruled_10 (by decide) fl_X_5 rfl ?_
  refine j_iload_n C d_X_ruled_13 (x := nI i) rfl ?_
  refine j_bald C 3 2 (f := fun ξ => nI ((N 3) ξ)) (i := i) (v := nI (N 3 i)) d_X_ruled_14 rfl rfl (by omega) (by decide) rfl ?_
  refine j_istore C d_X_ruled_15 (Nat.le_of_ble_eq_true rfl) (Nat.le_of_ble_eq_true rfl) (L' := [.ref (h 0), .int (nI i), .int (nI t), .int (iI ((t : Int) - ((N 4 i) : Int))), .int (nI (N 3 i))]) rfl ?_
  refine j_iload C d_X_ruled_17 (x := nI (N 3 i)) rfl ?_
  refine j_iconst C d_X_ruled_19 (v := nI 1) (by decide) ?_
  refine j_icmp_ne C d_X_ruled_20 (tgt := 32) (by decide) (tI (N 3 i) (by omega)) (tI 1 (by decide)) (fun c_20 => ?_) (fun c_20 => ?_)
  · refine j_iload_n C d_X_ruled_32 (x := iI ((t : Int) - ((N 4 i) : Int))) rfl ?_
    refine j_if_gt C d_X_ruled_33 (tgt := 38) (by decide) (iI_toInt (z := (t : Int) - ((N 4 i) : Int)) (by omega) (by omega)) (fun c_33 => ?_) (fun c_33 => ?_)
    · refine j_iload C d_X_ruled_38 (x := nI (N 3 i)) rfl ?_
      refine j_if_ne C d_X_ruled_40 (tgt := 52) (by decide) (tI (N 3 i) (by omega)) (fun c_40 => ?_) (fun c_40 => ?_)
      · refine j_iload C d_X_ruled_52 (x := nI (N 3 i)) rfl ?_
        refine j_iconst C d_X_ruled_54 (v := nI 2) (by decide) ?_
        refine j_icmp_ne C d_X_ruled_55 (tgt := 70) (by decide) (tI (N 3 i) (by omega)) (tI 2 (by decide)) (fun c_55 => ?_) (fun c_55 => ?_)
        · refine j_sipush C d_X_ruled_70 (v := nI 1000) (by decide) ?_
          exact hret _ _ _ _ d_X_ruled_73 rfl ⟨rfl, by rw [cst, if_neg (by omega), if_neg (by omega), if_neg (by omega)]; first | (rw [if_pos (by omega)]; exact (nI_iI _).trans (by simp)) | (rw [if_neg (by omega)]; rfl)⟩
        · refine j_bipush C d_X_ruled_58 (v := nI 20) (by decide) ?_
          refine j_aload_n C d_X_ruled_60 (a := h 0) rfl ?_
          refine x_get C 7 (v := .ref (h 5)) d_X_ruled_61 (by decide) fl_X_7 rfl ?_
          refine j_iload_n C d_X_ruled_64 (x := nI i) rfl ?_
          refine j_bald C 5 4 (f := fun ξ => nI ((N 5) ξ)) (i := i) (v := nI (N 5 i)) d_X_ruled_65 rfl rfl (by omega) (by decide) rfl ?_
          refine j_imul C d_X_ruled_66 (z := nI (20 * (N 5 i))) (pk_mul _ _) ?_
          refine j_goto C d_X_ruled_67 (tgt := 73) (by decide) ?_
          exact hret _ _ _ _ d_X_ruled_73 rfl ⟨rfl, by rw [cst, if_neg (by omega), if_neg (by omega), if_neg (by omega)]; first | (rw [if_pos (by omega)]; exact (nI_iI _).trans (by simp)) | (rw [if_neg (by omega)]; rfl)⟩
      · refine j_aload_n C d_X_ruled_43 (a := h 0) rfl ?_
        refine x_get C 7 (v := .ref (h 5)) d_X_ruled_44 (by decide) fl_X_7 rfl ?_
        refine j_iload_n C d_X_ruled_47 (x := nI i) rfl ?_
        refine j_bald C 5 4 (f := fun ξ => nI ((N 5) ξ)) (i := i) (v := nI (N 5 i)) d_X_ruled_48 rfl rfl (by omega) (by decide) rfl ?_
        refine j_iload_n C d_X_ruled_49 (x := iI ((t : Int) - ((N 4 i) : Int))) rfl ?_
        refine j_imul C d_X_ruled_50 (z := iI (((N 5 i) : Int) * ((t : Int) - ((N 4 i) : Int)))) (nI_mulI _ _) ?_
        exact hret _ _ _ _ d_X_ruled_51 rfl ⟨rfl, by rw [cst, if_neg (by omega), if_neg (by omega), if_pos (by omega)]⟩
    · refine j_iconst C d_X_ruled_36 (v := nI 0) (by decide) ?_
      exact hret _ _ _ _ d_X_ruled_37 rfl ⟨rfl, by rw [cst, if_neg (by omega), if_pos (by omega)]; rfl⟩
  · refine j_aload_n C d_X_ruled_23 (a := h 0) rfl ?_
    refine x_get C 7 (v := .ref (h 5)) d_X_ruled_24 (by decide) fl_X_7 rfl ?_
    refine j_iload_n C d_X_ruled_27 (x := nI i) rfl ?_
    refine j_bald C 5 4 (f := fun ξ => nI ((N 5) ξ)) (i := i) (v := nI (N 5 i)) d_X_ruled_28 rfl rfl (by omega) (by decide) rfl ?_
    refine j_iload_n C d_X_ruled_29 (x := iI ((t : Int) - ((N 4 i) : Int))) rfl ?_
    refine j_imul C d_X_ruled_30 (z := iI (((N 5 i) : Int) * ((t : Int) - ((N 4 i) : Int)))) (nI_mulI _ _) ?_
    exact hret _ _ _ _ d_X_ruled_31 rfl ⟨rfl, by rw [cst, if_pos (by omega)]⟩
theorem d_X_costNow_0 : decode b_X_costNow 0 = .ok (.iload_n 1, 1) := by decide +kernel
theorem d_X_costNow_1 : decode b_X_costNow 1 = .ok (.aload_n 0, 1) := by decide +kernel
theorem d_X_costNow_2 : decode b_X_costNow 2 = .ok (.getfield 28, 3) := by decide +kernel
theorem d_X_costNow_5 : decode b_X_costNow 5 = .ok (.if_icmp .ne 14, 3) := by decide +kernel
theorem d_X_costNow_8 : decode b_X_costNow 8 = .ok (.iload_n 2, 1) := by decide +kernel
theorem d_X_costNow_9 : decode b_X_costNow 9 = .ok (.aload_n 0, 1) := by decide +kernel
theorem d_X_costNow_10 : decode b_X_costNow 10 = .ok (.getfield 79, 3) := by decide +kernel
theorem d_X_costNow_13 : decode b_X_costNow 13 = .ok (.if_icmp .le 6, 3) := by decide +kernel
theorem d_X_costNow_16 : decode b_X_costNow 16 = .ok (.ldc 82, 2) := by decide +kernel
theorem d_X_costNow_18 : decode b_X_costNow 18 = .ok (.ireturn, 1) := by decide +kernel
theorem d_X_costNow_19 : decode b_X_costNow 19 = .ok (.aload_n 0, 1) := by decide +kernel
theorem d_X_costNow_20 : decode b_X_costNow 20 = .ok (.iload_n 1, 1) := by decide +kernel
theorem d_X_costNow_21 : decode b_X_costNow 21 = .ok (.iload_n 2, 1) := by decide +kernel
theorem d_X_costNow_22 : decode b_X_costNow 22 = .ok (.invokevirtual 75, 3) := by decide +kernel
theorem d_X_costNow_25 : decode b_X_costNow 25 = .ok (.ireturn, 1) := by decide +kernel
set_option maxHeartbeats 4000000 in
set_option maxRecDepth 100000 in
/-- costNow(i, t) -/
theorem c_X_costNow (l : Launch) (D : va_G) (h : Nat → Nat) (cs : Nat → ClassId) {cp : Nat} {cap : Int} {pr : Nat} {fo : Int} {fb pn be : Nat} {N : Nat → Nat → Nat} (hN : okN N) (hfo : -1 ≤ fo ∧ fo < 5) (hfb : fb ≤ 60) {i t : Nat} (hi : i < 5) (ht : t ≤ 60) : CI l y_X_costNow b_X_costNow 3 .int 1 D (tysX cs) (wX h cs) (cp, cap, pr, fo, fb, pn, be, N) [.ref (h 0), .int (nI i), .int (nI t)] (fun r u' => u' = (cp, cap, pr, fo, fb, pn, be, N) ∧ r = iI (cnow N fo fb i t)) := by
  refine CI_of ok_X_costNow (Nat.le_of_ble_eq_true rfl) (cat_all rfl) ?_
  intro K C hret
  have C : Kok D (tysX cs) K b_X_costNow 3 R_X 1 := C
  refine j_iload_n C d_X_costNow_0 (x := nI i) rfl ?_
  refine j_aload_n C d_X_costNow_1 (a := h 0) rfl ?_
  refine x_get C 9 (v := .int (iI fo)) d_X_costNow_2 (by decide) fl_X_9 rfl ?_
  refine j_icmp_ne C d_X_costNow_5 (tgt := 19) (by decide) (tI i (by omega)) (iI_toInt (z := fo) (by omega) (by omega)) (fun c_5 => ?_) (fun c_5 => ?_)
  · refine j_aload_n C d_X_costNow_19 (a := h 0) rfl ?_
    refine j_iload_n C d_X_costNow_20 (x := nI i) rfl ?_
    refine j_iload_n C d_X_costNow_21 (x := nI t) rfl ?_
    refine j_calli C (c_X_ruled l D h cs hN (i := i) (t := t) hi ht) (As := [.int (nI i), .int (nI t)]) (rest := []) ok_X_ruled ml_X_75 (by decide) d_X_costNow_22 (q0 := 0) rfl rfl rfl rfl (Nat.le_of_ble_eq_true rfl) ?_
    intro r u' hp
    obtain ⟨rfl, rfl⟩ := hp
    exact hret _ _ _ _ d_X_costNow_25 rfl ⟨rfl, by rw [cnow, if_neg (by omega)]⟩
  · refine j_iload_n C d_X_costNow_8 (x := nI t) rfl ?_
    refine j_aload_n C d_X_costNow_9 (a := h 0) rfl ?_
    refine x_get C 10 (v := .int (nI fb)) d_X_costNow_10 (by decide) fl_X_10 rfl ?_
    refine j_icmp_le C d_X_costNow_13 (tgt := 19) (by decide) (tI t (by omega)) (tI fb (by omega)) (fun c_13 => ?_) (fun c_13 => ?_)
    · refine j_aload_n C d_X_costNow_19 (a := h 0) rfl ?_
      refine j_iload_n C d_X_costNow_20 (x := nI i) rfl ?_
      refine j_iload_n C d_X_costNow_21 (x := nI t) rfl ?_
      refine j_calli C (c_X_ruled l D h cs hN (i := i) (t := t) hi ht) (As := [.int (nI i), .int (nI t)]) (rest := []) ok_X_ruled ml_X_75 (by decide) d_X_costNow_22 (q0 := 0) rfl rfl rfl rfl (Nat.le_of_ble_eq_true rfl) ?_
      intro r u' hp
      obtain ⟨rfl, rfl⟩ := hp
      exact hret _ _ _ _ d_X_costNow_25 rfl ⟨rfl, by rw [cnow, if_neg (by omega)]⟩
    · refine j_ldc C d_X_costNow_16 kc_X_82 (v := nI 100000) (by decide) ?_
      exact hret _ _ _ _ d_X_costNow_18 rfl ⟨rfl, by rw [cnow, if_pos ⟨by omega, by omega⟩]; rfl⟩
theorem d_X_earliestOf_0 : decode b_X_earliestOf 0 = .ok (.iconst (-1), 1) := by decide +kernel
theorem d_X_earliestOf_1 : decode b_X_earliestOf 1 = .ok (.istore_n 2, 1) := by decide +kernel
theorem d_X_earliestOf_2 : decode b_X_earliestOf 2 = .ok (.iconst 0, 1) := by decide +kernel
theorem d_X_earliestOf_3 : decode b_X_earliestOf 3 = .ok (.istore_n 3, 1) := by decide +kernel
theorem d_X_earliestOf_4 : decode b_X_earliestOf 4 = .ok (.iload_n 3, 1) := by decide +kernel
theorem d_X_earliestOf_5 : decode b_X_earliestOf 5 = .ok (.iconst 5, 1) := by decide +kernel
theorem d_X_earliestOf_6 : decode b_X_earliestOf 6 = .ok (.if_icmp .ge 38, 3) := by decide +kernel
theorem d_X_earliestOf_9 : decode b_X_earliestOf 9 = .ok (.iload_n 1, 1) := by decide +kernel
theorem d_X_earliestOf_10 : decode b_X_earliestOf 10 = .ok (.iload_n 3, 1) := by decide +kernel
theorem d_X_earliestOf_11 : decode b_X_earliestOf 11 = .ok (.ishr, 1) := by decide +kernel
theorem d_X_earliestOf_12 : decode b_X_earliestOf 12 = .ok (.iconst 1, 1) := by decide +kernel
theorem d_X_earliestOf_13 : decode b_X_earliestOf 13 = .ok (.iand, 1) := by decide +kernel
theorem d_X_earliestOf_14 : decode b_X_earliestOf 14 = .ok (.ifCond .eq 24, 3) := by decide +kernel
theorem d_X_earliestOf_17 : decode b_X_earliestOf 17 = .ok (.iload_n 2, 1) := by decide +kernel
theorem d_X_earliestOf_18 : decode b_X_earliestOf 18 = .ok (.ifCond .lt 18, 3) := by decide +kernel
theorem d_X_earliestOf_21 : decode b_X_earliestOf 21 = .ok (.aload_n 0, 1) := by decide +kernel
theorem d_X_earliestOf_22 : decode b_X_earliestOf 22 = .ok (.getfield 32, 3) := by decide +kernel
theorem d_X_earliestOf_25 : decode b_X_earliestOf 25 = .ok (.iload_n 3, 1) := by decide +kernel
theorem d_X_earliestOf_26 : decode b_X_earliestOf 26 = .ok (.baload, 1) := by decide +kernel
theorem d_X_earliestOf_27 : decode b_X_earliestOf 27 = .ok (.aload_n 0, 1) := by decide +kernel
theorem d_X_earliestOf_28 : decode b_X_earliestOf 28 = .ok (.getfield 32, 3) := by decide +kernel
theorem d_X_earliestOf_31 : decode b_X_earliestOf 31 = .ok (.iload_n 2, 1) := by decide +kernel
theorem d_X_earliestOf_32 : decode b_X_earliestOf 32 = .ok (.baload, 1) := by decide +kernel
theorem d_X_earliestOf_33 : decode b_X_earliestOf 33 = .ok (.if_icmp .ge 5, 3) := by decide +kernel
theorem d_X_earliestOf_36 : decode b_X_earliestOf 36 = .ok (.iload_n 3, 1) := by decide +kernel
theorem d_X_earliestOf_37 : decode b_X_earliestOf 37 = .ok (.istore_n 2, 1) := by decide +kernel
theorem d_X_earliestOf_38 : decode b_X_earliestOf 38 = .ok (.iinc 3 1, 3) := by decide +kernel
theorem d_X_earliestOf_41 : decode b_X_earliestOf 41 = .ok (.goto (-37), 3) := by decide +kernel
theorem d_X_earliestOf_44 : decode b_X_earliestOf 44 = .ok (.iload_n 2, 1) := by decide +kernel
theorem d_X_earliestOf_45 : decode b_X_earliestOf 45 = .ok (.ireturn, 1) := by decide +kernel
set_option maxHeartbeats 4000000 in
set_option maxRecDepth 100000 in
theorem lp_X_earliestOf {l : Launch} {D : va_G} {h : Nat → Nat} {cs : Nat → ClassId} {cp : Nat} {cap : Int} {pr : Nat} {fo : Int} {fb pn be : Nat} {N : Nat → Nat → Nat} {K : Kc} (C : Kok D (tysX cs) K b_X_earliestOf 4 R_X 0) {g : Nat} (hg : g < 32) (hrd : ∀ j, j < 5 → N 7 j < 128) (kk : ∀ b, eoP g (N 7) 5 b → J l D K (wX h cs) (cp, cap, pr, fo, fb, pn, be, N) 44 [.ref (h 0), .int (nI g), .int (iI b), .int (nI 5)] []) : ∀ i, i ≤ 5 → ∀ b, eoP g (N 7) i b → J l D K (wX h cs) (cp, cap, pr, fo, fb, pn, be, N) 4 [.ref (h 0), .int (nI g), .int (iI b), .int (nI i)] [] := by
  refine up_ind 5 ?_
  intro i hi ih b hb
  have hbd := eoP_bd hb hi
  refine j_iload_n C d_X_earliestOf_4 (x := nI i) rfl ?_
  refine j_iconst C d_X_earliestOf_5 (v := nI 5) (by decide) ?_
  refine j_icmp_ge C d_X_earliestOf_6 (tgt := 44) (by decide) (tI i (by omega)) (tI 5 (by decide)) (fun c_6 => ?_) (fun c_6 => ?_)
  · obtain rfl : i = 5 := by omega
    exact kk b hb
  · refine j_iload_n C d_X_earliestOf_9 (x := nI g) rfl ?_
    refine j_iload_n C d_X_earliestOf_10 (x := nI i) rfl ?_
    refine j_ishr C d_X_earliestOf_11 (z := nI (g / 2 ^ i)) (nI_shr (by omega) (by omega)) ?_
    refine j_iconst C d_X_earliestOf_12 (v := nI 1) (by decide) ?_
    refine j_iand C d_X_earliestOf_13 (z := nI (tb g i)) (nI_bit (by omega)) ?_
    refine j_if_eq C d_X_earliestOf_14 (tgt := 38) (by decide) (tI _ (tb_lt _ _)) (fun c_14 => ?_) (fun c_14 => ?_)
    · have b_14 : Nat.testBit g i = false := tb_f c_14
      have hnew := eoP_skip hb b_14
      refine j_iinc C d_X_earliestOf_38 (Nat.le_of_ble_eq_true rfl) (x := nI i) (v := nI (i + 1)) rfl (nI_add _ _) (L' := [.ref (h 0), .int (nI g), .int (iI b), .int (nI (i + 1))]) rfl ?_
      refine j_goto C d_X_earliestOf_41 (tgt := 4) (by decide) ?_
      exact ih (by omega) _ hnew
    · have b_14 : Nat.testBit g i = true := tb_t c_14
      refine j_iload_n C d_X_earliestOf_17 (x := iI b) rfl ?_
      refine j_if_lt C d_X_earliestOf_18 (tgt := 36) (by decide) (iI_toInt (z := b) (by omega) (by omega)) (fun c_18 => ?_) (fun c_18 => ?_)
      · have hnew := eoP_first hb c_18 b_14
        refine j_iload_n C d_X_earliestOf_36 (x := nI i) rfl ?_
        refine j_istore_n C d_X_earliestOf_37 (Nat.le_of_ble_eq_true rfl) (Nat.le_of_ble_eq_true rfl) (L' := [.ref (h 0), .int (nI g), .int (nI i), .int (nI i)]) rfl ?_
        refine j_iinc C d_X_earliestOf_38 (Nat.le_of_ble_eq_true rfl) (x := nI i) (v := nI (i + 1)) rfl (nI_add _ _) (L' := [.ref (h 0), .int (nI g), .int (nI i), .int (nI (i + 1))]) rfl ?_
        refine j_goto C d_X_earliestOf_41 (tgt := 4) (by decide) ?_
        rw [nI_iI i]
        exact ih (by omega) _ hnew
      · obtain ⟨m, rfl, hm⟩ := eoP_pos hb c_18
        rw [← nI_iI m]
        refine j_aload_n C d_X_earliestOf_21 (a := h 0) rfl ?_
        refine x_get C 11 (v := .ref (h 7)) d_X_earliestOf_22 (by decide) fl_X_11 rfl ?_
        refine j_iload_n C d_X_earliestOf_25 (x := nI i) rfl ?_
        refine j_bald C 7 6 (f := fun ξ => nI ((N 7) ξ)) (i := i) (v := nI (N 7 i)) d_X_earliestOf_26 rfl rfl (by omega) (by decide) rfl ?_
        have q_26 := hrd i (by omega)
        refine j_aload_n C d_X_earliestOf_27 (a := h 0) rfl ?_
        refine x_get C 11 (v := .ref (h 7)) d_X_earliestOf_28 (by decide) fl_X_11 rfl ?_
        refine j_iload_n C d_X_earliestOf_31 (x := nI m) rfl ?_
        refine j_bald C 7 6 (f := fun ξ => nI ((N 7) ξ)) (i := m) (v := nI (N 7 m)) d_X_earliestOf_32 rfl rfl (by omega) (by decide) rfl ?_
        have q_32 := hrd m (by omega)
        refine j_icmp_ge C d_X_earliestOf_33 (tgt := 38) (by decide) (tI (N 7 i) (by omega)) (tI (N 7 m) (by omega)) (fun c_33 => ?_) (fun c_33 => ?_)
        · have hnew := eoP_keep hb (by omega)
          refine j_iinc C d_X_earliestOf_38 (Nat.le_of_ble_eq_true rfl) (x := nI i) (v := nI (i + 1)) rfl (nI_add _ _) (L' := [.ref (h 0), .int (nI g), .int (nI m), .int (nI (i + 1))]) rfl ?_
          refine j_goto C d_X_earliestOf_41 (tgt := 4) (by decide) ?_
          rw [nI_iI m]
          exact ih (by omega) _ hnew
        · have hnew := eoP_better hb (by omega) b_14
          refine j_iload_n C d_X_earliestOf_36 (x := nI i) rfl ?_
          refine j_istore_n C d_X_earliestOf_37 (Nat.le_of_ble_eq_true rfl) (Nat.le_of_ble_eq_true rfl) (L' := [.ref (h 0), .int (nI g), .int (nI i), .int (nI i)]) rfl ?_
          refine j_iinc C d_X_earliestOf_38 (Nat.le_of_ble_eq_true rfl) (x := nI i) (v := nI (i + 1)) rfl (nI_add _ _) (L' := [.ref (h 0), .int (nI g), .int (nI i), .int (nI (i + 1))]) rfl ?_
          refine j_goto C d_X_earliestOf_41 (tgt := 4) (by decide) ?_
          rw [nI_iI i]
          exact ih (by omega) _ hnew
set_option maxHeartbeats 4000000 in
set_option maxRecDepth 100000 in
/-- earliestOf(g) -/
theorem c_X_earliestOf (l : Launch) (D : va_G) (h : Nat → Nat) (cs : Nat → ClassId) {cp : Nat} {cap : Int} {pr : Nat} {fo : Int} {fb pn be : Nat} {N : Nat → Nat → Nat} {g : Nat} (hg : g < 32) (hrd : ∀ j, j < 5 → N 7 j < 128) : CI l y_X_earliestOf b_X_earliestOf 4 .int 0 D (tysX cs) (wX h cs) (cp, cap, pr, fo, fb, pn, be, N) [.ref (h 0), .int (nI g)] (fun r u' => u' = (cp, cap, pr, fo, fb, pn, be, N) ∧ ∃ b, r = iI b ∧ eoP g (N 7) 5 b) := by
  refine CI_of ok_X_earliestOf (Nat.le_of_ble_eq_true rfl) (cat_all rfl) ?_
  intro K C hret
  have C : Kok D (tysX cs) K b_X_earliestOf 4 R_X 0 := C
  refine j_iconst C d_X_earliestOf_0 (v := iI (-1)) (by decide) ?_
  refine j_istore_n C d_X_earliestOf_1 (Nat.le_of_ble_eq_true rfl) (Nat.le_of_ble_eq_true rfl) (L' := [.ref (h 0), .int (nI g), .int (iI (-1))]) rfl ?_
  refine j_iconst C d_X_earliestOf_2 (v := nI 0) (by decide) ?_
  refine j_istore_n C d_X_earliestOf_3 (Nat.le_of_ble_eq_true rfl) (Nat.le_of_ble_eq_true rfl) (L' := [.ref (h 0), .int (nI g), .int (iI (-1)), .int (nI 0)]) rfl ?_
  refine lp_X_earliestOf C hg hrd (fun b hb => ?_) 0 (by omega) (-1) (eoP_0 _ _)
  refine j_iload_n C d_X_earliestOf_44 (x := iI b) rfl ?_
  exact hret _ _ _ _ d_X_earliestOf_45 rfl ⟨rfl, b, rfl, hb⟩
end
section
/-! ===== sums over masks; blocks ===== -/
theorem sm_add {g m : Nat} {f : Nat → Nat} (hm : m < 5) (hg : g.testBit m = false) : sm (g ||| 2 ^ m) f = sm g f + f m := by
  unfold sm
  simp only [Nat.testBit_or, one_bit]
  have hc : m = 0 ∨ m = 1 ∨ m = 2 ∨ m = 3 ∨ m = 4 := by omega
  rcases hc with rfl | rfl | rfl | rfl | rfl <;> simp [hg] <;> omega
theorem sm_le {g : Nat} {f f' : Nat → Nat} (h : ∀ j, j < 5 → g.testBit j = true → f j ≤ f' j) : sm g f ≤ sm g f' := by
  have key : ∀ j, j < 5 → (if g.testBit j then f j else 0) ≤ (if g.testBit j then f' j else 0) := by
    intro j hj
    by_cases hb : g.testBit j = true
    · rw [if_pos hb, if_pos hb]; exact h j hj hb
    · rw [if_neg hb, if_neg hb]; exact Nat.le_refl _
  have h0 := key 0 (by omega)
  have h1 := key 1 (by omega)
  have h2 := key 2 (by omega)
  have h3 := key 3 (by omega)
  have h4 := key 4 (by omega)
  unfold sm
  omega
theorem sm_congr {g : Nat} {f f' : Nat → Nat} (h : ∀ j, j < 5 → g.testBit j = true → f j = f' j) : sm g f = sm g f' :=
  Nat.le_antisymm (sm_le fun j hj hb => Nat.le_of_eq (h j hj hb)) (sm_le fun j hj hb => Nat.le_of_eq (h j hj hb).symm)
theorem sm_bd {g c : Nat} {f : Nat → Nat} (h : ∀ j, j < 5 → f j ≤ c) : sm g f ≤ 5 * c := by
  have key : ∀ j, j < 5 → (if g.testBit j then f j else 0) ≤ c := by
    intro j hj
    by_cases hb : g.testBit j = true
    · rw [if_pos hb]; exact h j hj
    · rw [if_neg hb]; omega
  have h0 := key 0 (by omega)
  have h1 := key 1 (by omega)
  have h2 := key 2 (by omega)
  have h3 := key 3 (by omega)
  have h4 := key 4 (by omega)
  unfold sm
  omega
theorem sm_zero (f : Nat → Nat) : sm 0 f = 0 := by simp [sm]
theorem sm_full {g : Nat} (hg : g < 32) (h : sm g (fun _ => 1) = 5) : ∀ j, j < 5 → g.testBit j = true := by
  have : ∀ g, g < 32 → sm g (fun _ => 1) = 5 → ∀ j, j < 5 → g.testBit j = true := by decide +kernel
  exact this g hg h
theorem sm_pos {g j : Nat} {f : Nat → Nat} (hj : j < 5) (hb : g.testBit j = true) : f j ≤ sm g f := by
  have hc : j = 0 ∨ j = 1 ∨ j = 2 ∨ j = 3 ∨ j = 4 := by omega
  unfold sm
  rcases hc with rfl | rfl | rfl | rfl | rfl <;> simp only [hb] <;> simp <;> omega
/-- a block of the jobs g: busy from st to e, no job of g outside it is ready before those in it -/
def Blk (rd len : Nat → Nat) (g blk st e : Nat) : Prop :=
  blk < 32 ∧ (∀ j, blk.testBit j = true → g.testBit j = true) ∧ (∀ j, blk.testBit j = true → st ≤ rd j ∧ rd j < e) ∧ e = st + sm blk len ∧ (∀ τ, st ≤ τ → τ < e → τ < st + sm blk (fun j => if rd j ≤ τ then len j else 0)) ∧ (∀ i j, blk.testBit i = true → g.testBit j = true → blk.testBit j = false → rd i ≤ rd j) ∧ (∃ j, blk.testBit j = true ∧ rd j = st)
/-- .. and the first one -/
def BlkF (rd len : Nat → Nat) (g blk st e : Nat) : Prop := Blk rd len g blk st e ∧ ∀ j, g.testBit j = true → blk.testBit j = false → e ≤ rd j
theorem or_bit (a m j : Nat) : (a ||| 2 ^ m).testBit j = true ↔ a.testBit j = true ∨ m = j := by
  rw [Nat.testBit_or, one_bit]
  simp
theorem or_bitf (a m j : Nat) : (a ||| 2 ^ m).testBit j = false ↔ a.testBit j = false ∧ m ≠ j := by
  rw [Nat.testBit_or, one_bit]
  simp
theorem blk_one {rd len : Nat → Nat} {g m : Nat} (hm : m < 5) (hg : g.testBit m = true) (hlen : 1 ≤ len m) (hmin : ∀ j, j < 5 → g.testBit j = true → rd m ≤ rd j) (hg32 : g < 32) : Blk rd len g (0 ||| 2 ^ m) (rd m) (rd m + len m) := by
  have hb : ∀ j, (0 ||| 2 ^ m).testBit j = true → j = m := by
    intro j hj
    rcases (or_bit 0 m j).mp hj with q | q
    · simp at q
    · exact q.symm
  refine ⟨or_lt (by omega) (pow_lt hm), fun j hj => by rw [hb j hj]; exact hg, fun j hj => by rw [hb j hj]; omega, ?_, fun τ h1 h2 => ?_, fun i j hi hj _ => by rw [hb i hi]; exact hmin j (lt5_of hg32 hj) hj, m, (or_bit 0 m m).mpr (Or.inr rfl), rfl⟩
  · rw [sm_add hm (by simp), sm_zero]; omega
  · rw [sm_add hm (by simp), sm_zero, if_pos h1]; omega
theorem blk_next {rd len : Nat → Nat} {g blk st e m : Nat} (hB : Blk rd len g blk st e) (hm : m < 5) (hg : g.testBit m = true) (hn : blk.testBit m = false) (hlen : 1 ≤ len m) (hmin : ∀ j, j < 5 → g.testBit j = true → blk.testBit j = false → rd m ≤ rd j) (hr : rd m < e) (hg32 : g < 32) : Blk rd len g (blk ||| 2 ^ m) st (e + len m) := by
  obtain ⟨h1, h2, h3, h4, h5, h6, h7⟩ := hB
  obtain ⟨j0, hj0, hj1⟩ := h7
  have hst : st ≤ rd m := by rw [← hj1]; exact h6 j0 m hj0 hg hn
  refine ⟨or_lt h1 (pow_lt hm), fun j hj => ?_, fun j hj => ?_, ?_, fun τ t1 t2 => ?_, fun i j hi hj hjn => ?_, j0, (or_bit _ _ _).mpr (Or.inl hj0), hj1⟩
  · rcases (or_bit _ _ _).mp hj with q | rfl
    · exact h2 j q
    · exact hg
  · rcases (or_bit _ _ _).mp hj with q | rfl
    · have := h3 j q; omega
    · omega
  · rw [sm_add hm hn]; omega
  · rw [sm_add hm hn]
    rcases Nat.lt_or_ge τ e with q | q
    · have := h5 τ t1 q
      omega
    · have e1 : sm blk (fun j => if rd j ≤ τ then len j else 0) = sm blk len := sm_congr fun j hj hb => by
        have := h3 j hb
        exact if_pos (by omega)
      rw [e1, if_pos (by omega)]
      omega
  · obtain ⟨q1, q2⟩ := (or_bitf _ _ _).mp hjn
    rcases (or_bit _ _ _).mp hi with q | rfl
    · exact h6 i j q hj q1
    · exact hmin j (lt5_of hg32 hj) hj q1
theorem blk_e {rd len : Nat → Nat} {g blk st e : Nat} (hB : Blk rd len g blk st e) (hg : g < 32) (hrd : ∀ j, j < 5 → rd j < 128) (hlen : ∀ j, j < 5 → len j ≤ 3) : st < 128 ∧ e ≤ st + 15 := by
  obtain ⟨h1, h2, h3, h4, h5, h6, j0, hj0, hj1⟩ := hB
  have := hrd j0 (lt5_of h1 hj0)
  have := sm_bd (g := blk) (f := len) (c := 3) hlen
  omega
theorem blk_ne {rd len : Nat → Nat} {g blk st e : Nat} (hB : Blk rd len g blk st e) : blk ≠ 0 := by
  obtain ⟨h1, h2, h3, h4, h5, h6, j0, hj0, hj1⟩ := hB
  intro h
  rw [h] at hj0
  simp at hj0
/-- what firstBlock knows behind k jobs -/
def FB (rd len : Nat → Nat) (g k blk : Nat) (t : Int) : Prop := blk < 32 ∧ sm blk (fun _ => 1) = k ∧ ((k = 0 ∧ blk = 0 ∧ t = -1) ∨ ∃ st e : Nat, 0 < k ∧ t = (e : Int) ∧ Blk rd len g blk st e)
theorem FB_0 (rd len : Nat → Nat) (g : Nat) : FB rd len g 0 0 (-1) := ⟨by omega, sm_zero _, Or.inl ⟨rfl, rfl, rfl⟩⟩
theorem FB_neg {rd len : Nat → Nat} {g k blk : Nat} {t : Int} (h : FB rd len g k blk t) (ht : t < 0) : k = 0 ∧ blk = 0 := by
  rcases h.2.2 with ⟨h1, h2, h3⟩ | ⟨st, e, h1, h2, h3⟩
  · exact ⟨h1, h2⟩
  · omega
theorem FB_pos {rd len : Nat → Nat} {g k blk : Nat} {t : Int} (h : FB rd len g k blk t) (ht : 0 ≤ t) : ∃ st e : Nat, t = (e : Int) ∧ Blk rd len g blk st e := by
  rcases h.2.2 with ⟨h1, h2, h3⟩ | ⟨st, e, h1, h2, h3⟩
  · omega
  · exact ⟨st, e, h2, h3⟩
theorem eo_get {g : Nat} {rd : Nat → Nat} {b : Int} (h : eoP g rd 5 b) (hb : 0 ≤ b) : ∃ m : Nat, b = (m : Int) ∧ m < 5 ∧ g.testBit m = true ∧ ∀ j, j < 5 → g.testBit j = true → rd m ≤ rd j := by
  rcases h with ⟨h1, h2⟩ | h
  · omega
  · exact h
theorem eo_none {g : Nat} {rd : Nat → Nat} {b : Int} (h : eoP g rd 5 b) (hb : b < 0) : ∀ j, j < 5 → g.testBit j = false := by
  rcases h with ⟨h1, h2⟩ | ⟨m, h1, h2⟩
  · exact h2
  · omega
theorem dif_t {a b i : Nat} (ha : a < 32) : (dif a b).testBit i = true ↔ a.testBit i = true ∧ b.testBit i = false := by
  rw [dif_bit ha]; simp
theorem dif_f {a b i : Nat} (ha : a < 32) : (dif a b).testBit i = false ↔ (a.testBit i = true → b.testBit i = true) := by
  rw [dif_bit ha]; cases a.testBit i <;> simp
theorem FB_first {rd len : Nat → Nat} {g k blk m : Nat} {t : Int} (hg : g < 32) (h : FB rd len g k blk t) (ht : t < 0) (hm : m < 5) (hgm : (dif g blk).testBit m = true) (hmin : ∀ j, j < 5 → (dif g blk).testBit j = true → rd m ≤ rd j) (hlen : ∀ j, g.testBit j = true → 1 ≤ len j) : FB rd len g (k + 1) (blk ||| 2 ^ m) ((rd m + len m : Nat) : Int) := by
  obtain ⟨rfl, rfl⟩ := FB_neg h ht
  have h1 := (dif_t hg).mp hgm
  refine ⟨or_lt h.1 (pow_lt hm), by rw [sm_add hm h1.2, h.2.1], Or.inr ⟨rd m, rd m + len m, by omega, rfl, blk_one hm h1.1 (hlen m h1.1) (fun j hj hb => hmin j hj ((dif_t hg).mpr ⟨hb, by simp⟩)) hg⟩⟩
theorem FB_next {rd len : Nat → Nat} {g k blk m st e : Nat} {t : Int} (hg : g < 32) (h : FB rd len g k blk t) (hB : Blk rd len g blk st e) (hm : m < 5) (hgm : (dif g blk).testBit m = true) (hmin : ∀ j, j < 5 → (dif g blk).testBit j = true → rd m ≤ rd j) (hlen : ∀ j, g.testBit j = true → 1 ≤ len j) (hr : rd m < e) : FB rd len g (k + 1) (blk ||| 2 ^ m) ((e + len m : Nat) : Int) := by
  have h1 := (dif_t hg).mp hgm
  exact ⟨or_lt h.1 (pow_lt hm), by rw [sm_add hm h1.2, h.2.1], Or.inr ⟨st, e + len m, by omega, rfl, blk_next hB hm h1.1 h1.2 (hlen m h1.1) (fun j hj hb hn => hmin j hj ((dif_t hg).mpr ⟨hb, hn⟩)) hr hg⟩⟩
theorem FB_end1 {rd len : Nat → Nat} {g k blk : Nat} {t : Int} (hg : g < 32) (h : FB rd len g k blk t) (hk : k = 5) : ∃ st e : Nat, t = (e : Int) ∧ BlkF rd len g blk st e := by
  rcases h.2.2 with ⟨h1, h2, h3⟩ | ⟨st, e, h1, h2, h3⟩
  · omega
  · refine ⟨st, e, h2, h3, fun j hj hn => ?_⟩
    have := sm_full h.1 (by rw [h.2.1]; exact hk) j (lt5_of hg hj)
    rw [this] at hn; cases hn
theorem FB_end2 {rd len : Nat → Nat} {g k blk : Nat} {t : Int} (hg : g < 32) (hg0 : g ≠ 0) (h : FB rd len g k blk t) (hn : ∀ j, j < 5 → (dif g blk).testBit j = false) : ∃ st e : Nat, t = (e : Int) ∧ BlkF rd len g blk st e := by
  rcases h.2.2 with ⟨h1, h2, h3⟩ | ⟨st, e, h1, h2, h3⟩
  · obtain ⟨i, hi, hb⟩ := bit_ne hg hg0
    have := (dif_f hg).mp (hn i hi) hb
    rw [h2] at this
    simp at this
  · refine ⟨st, e, h2, h3, fun j hj hnj => ?_⟩
    have := (dif_f hg).mp (hn j (lt5_of hg hj)) hj
    rw [this] at hnj; cases hnj
theorem FB_end3 {rd len : Nat → Nat} {g blk m st e : Nat} (hg : g < 32) (hB : Blk rd len g blk st e) (hmin : ∀ j, j < 5 → (dif g blk).testBit j = true → rd m ≤ rd j) (hr : e ≤ rd m) : ∃ st' e' : Nat, (e : Int) = (e' : Int) ∧ BlkF rd len g blk st' e' :=
  ⟨st, e, rfl, hB, fun j hj hn => Nat.le_trans hr (hmin j (lt5_of hg hj) ((dif_t hg).mpr ⟨hj, hn⟩))⟩
/-- the scratch arrays ready and pending -/
def sc (N : Nat → Nat → Nat) (rd pd : Nat → Nat) : Nat → Nat → Nat := va_up (va_up N 7 rd) 8 pd
end
section
theorem j_same {S : Type} {l : Launch} {D : va_G} {K : Kc} {w : S → va_W} {u u' : S} {pc : Nat} {L st : List Value} (hw : w u' = w u) (k : J l D K w u' pc L st) : J l D K w u pc L st := by
  intro H locs ls hP hD hS hl
  exact k H locs ls (by rw [hw]; exact hP) (by rw [hw]; exact hD) hS hl
/-- the ready times behind j of the followers of a job that is done at dn; af: the followers -/
def pfP (rd0 : Nat → Nat) (af dn j : Nat) (rd : Nat → Nat) : Prop := ∀ q, rd q = if q < j ∧ af.testBit q = true ∧ rd0 q < dn then dn else rd0 q
theorem pfP_0 (rd0 : Nat → Nat) (af dn : Nat) : pfP rd0 af dn 0 rd0 := fun q => (if_neg (by omega)).symm
theorem pfP_at {rd0 rd : Nat → Nat} {af dn j : Nat} (h : pfP rd0 af dn j rd) : rd j = rd0 j := by rw [h j, if_neg (by omega)]
theorem pfP_skip {rd0 rd : Nat → Nat} {af dn j : Nat} (h : pfP rd0 af dn j rd) (hb : af.testBit j = false ∨ dn ≤ rd0 j) : pfP rd0 af dn (j + 1) rd := by
  intro q
  rw [h q]
  by_cases hq : q = j
  · subst hq
    rw [if_neg (by omega), if_neg]
    rintro ⟨-, h1, h2⟩
    rcases hb with hb | hb
    · rw [hb] at h1; cases h1
    · omega
  · by_cases hc : q < j ∧ af.testBit q = true ∧ rd0 q < dn
    · rw [if_pos hc, if_pos ⟨by omega, hc.2⟩]
    · rw [if_neg hc, if_neg (fun z => hc ⟨by omega, z.2⟩)]
theorem pfP_set {rd0 rd : Nat → Nat} {af dn j : Nat} (h : pfP rd0 af dn j rd) (hb : af.testBit j = true) (hd : rd0 j < dn) : pfP rd0 af dn (j + 1) (va_up rd j dn) := by
  intro q
  by_cases hq : q = j
  · subst hq
    rw [va_up_self, if_pos ⟨by omega, hb, hd⟩]
  · rw [va_up_ne _ _ hq, h q]
    by_cases hc : q < j ∧ af.testBit q = true ∧ rd0 q < dn
    · rw [if_pos hc, if_pos ⟨by omega, hc.2⟩]
    · rw [if_neg hc, if_neg (fun z => hc ⟨by omega, z.2⟩)]
theorem pfP_bd {rd0 rd : Nat → Nat} {af dn j : Nat} (h : pfP rd0 af dn j rd) (h0 : ∀ q, q < 5 → rd0 q < 128) (hd : dn < 128) : ∀ q, q < 5 → rd q < 128 := by
  intro q hq
  have := h0 q hq
  rw [h q]
  split <;> omega
theorem and_lt32 {a b : Nat} (h : b < 32) : a &&& b < 32 := Nat.lt_of_le_of_lt Nat.and_le_right h
theorem FB_bd {rd len : Nat → Nat} {g k blk : Nat} {t : Int} (hg : g < 32) (h : FB rd len g k blk t) (hrd : ∀ j, j < 5 → rd j < 128) (hlen : ∀ j, j < 5 → len j ≤ 3) : -1 ≤ t ∧ t < 200 := by
  rcases h.2.2 with ⟨h1, h2, h3⟩ | ⟨st, e, h1, h2, h3⟩
  · omega
  · have := blk_e h3 hg hrd hlen
    omega
theorem d_X_firstBlock_0 : decode b_X_firstBlock 0 = .ok (.iconst 0, 1) := by decide +kernel
theorem d_X_firstBlock_1 : decode b_X_firstBlock 1 = .ok (.istore_n 2, 1) := by decide +kernel
theorem d_X_firstBlock_2 : decode b_X_firstBlock 2 = .ok (.iconst (-1), 1) := by decide +kernel
theorem d_X_firstBlock_3 : decode b_X_firstBlock 3 = .ok (.istore_n 3, 1) := by decide +kernel
theorem d_X_firstBlock_4 : decode b_X_firstBlock 4 = .ok (.iconst 0, 1) := by decide +kernel
theorem d_X_firstBlock_5 : decode b_X_firstBlock 5 = .ok (.istore 4, 2) := by decide +kernel
theorem d_X_firstBlock_7 : decode b_X_firstBlock 7 = .ok (.iload 4, 2) := by decide +kernel
theorem d_X_firstBlock_9 : decode b_X_firstBlock 9 = .ok (.iconst 5, 1) := by decide +kernel
theorem d_X_firstBlock_10 : decode b_X_firstBlock 10 = .ok (.if_icmp .ge 75, 3) := by decide +kernel
theorem d_X_firstBlock_13 : decode b_X_firstBlock 13 = .ok (.aload_n 0, 1) := by decide +kernel
theorem d_X_firstBlock_14 : decode b_X_firstBlock 14 = .ok (.iload_n 1, 1) := by decide +kernel
theorem d_X_firstBlock_15 : decode b_X_firstBlock 15 = .ok (.iload_n 2, 1) := by decide +kernel
theorem d_X_firstBlock_16 : decode b_X_firstBlock 16 = .ok (.iconst (-1), 1) := by decide +kernel
theorem d_X_firstBlock_17 : decode b_X_firstBlock 17 = .ok (.ixor, 1) := by decide +kernel
theorem d_X_firstBlock_18 : decode b_X_firstBlock 18 = .ok (.iand, 1) := by decide +kernel
theorem d_X_firstBlock_19 : decode b_X_firstBlock 19 = .ok (.invokevirtual 113, 3) := by decide +kernel
theorem d_X_firstBlock_22 : decode b_X_firstBlock 22 = .ok (.istore 5, 2) := by decide +kernel
theorem d_X_firstBlock_24 : decode b_X_firstBlock 24 = .ok (.iload 5, 2) := by decide +kernel
theorem d_X_firstBlock_26 : decode b_X_firstBlock 26 = .ok (.ifCond .ge 6, 3) := by decide +kernel
theorem d_X_firstBlock_29 : decode b_X_firstBlock 29 = .ok (.goto 56, 3) := by decide +kernel
theorem d_X_firstBlock_32 : decode b_X_firstBlock 32 = .ok (.iload_n 3, 1) := by decide +kernel
theorem d_X_firstBlock_33 : decode b_X_firstBlock 33 = .ok (.ifCond .ge 11, 3) := by decide +kernel
theorem d_X_firstBlock_36 : decode b_X_firstBlock 36 = .ok (.aload_n 0, 1) := by decide +kernel
theorem d_X_firstBlock_37 : decode b_X_firstBlock 37 = .ok (.getfield 32, 3) := by decide +kernel
theorem d_X_firstBlock_40 : decode b_X_firstBlock 40 = .ok (.iload 5, 2) := by decide +kernel
theorem d_X_firstBlock_42 : decode b_X_firstBlock 42 = .ok (.baload, 1) := by decide +kernel
theorem d_X_firstBlock_43 : decode b_X_firstBlock 43 = .ok (.istore_n 3, 1) := by decide +kernel
theorem d_X_firstBlock_44 : decode b_X_firstBlock 44 = .ok (.iload_n 2, 1) := by decide +kernel
theorem d_X_firstBlock_45 : decode b_X_firstBlock 45 = .ok (.ifCond .eq 17, 3) := by decide +kernel
theorem d_X_firstBlock_48 : decode b_X_firstBlock 48 = .ok (.aload_n 0, 1) := by decide +kernel
theorem d_X_firstBlock_49 : decode b_X_firstBlock 49 = .ok (.getfield 32, 3) := by decide +kernel
theorem d_X_firstBlock_52 : decode b_X_firstBlock 52 = .ok (.iload 5, 2) := by decide +kernel
theorem d_X_firstBlock_54 : decode b_X_firstBlock 54 = .ok (.baload, 1) := by decide +kernel
theorem d_X_firstBlock_55 : decode b_X_firstBlock 55 = .ok (.iload_n 3, 1) := by decide +kernel
theorem d_X_firstBlock_56 : decode b_X_firstBlock 56 = .ok (.if_icmp .lt 6, 3) := by decide +kernel
theorem d_X_firstBlock_59 : decode b_X_firstBlock 59 = .ok (.goto 26, 3) := by decide +kernel
theorem d_X_firstBlock_62 : decode b_X_firstBlock 62 = .ok (.iload_n 2, 1) := by decide +kernel
theorem d_X_firstBlock_63 : decode b_X_firstBlock 63 = .ok (.iconst 1, 1) := by decide +kernel
theorem d_X_firstBlock_64 : decode b_X_firstBlock 64 = .ok (.iload 5, 2) := by decide +kernel
theorem d_X_firstBlock_66 : decode b_X_firstBlock 66 = .ok (.ishl, 1) := by decide +kernel
theorem d_X_firstBlock_67 : decode b_X_firstBlock 67 = .ok (.ior, 1) := by decide +kernel
theorem d_X_firstBlock_68 : decode b_X_firstBlock 68 = .ok (.istore_n 2, 1) := by decide +kernel
theorem d_X_firstBlock_69 : decode b_X_firstBlock 69 = .ok (.iload_n 3, 1) := by decide +kernel
theorem d_X_firstBlock_70 : decode b_X_firstBlock 70 = .ok (.aload_n 0, 1) := by decide +kernel
theorem d_X_firstBlock_71 : decode b_X_firstBlock 71 = .ok (.getfield 13, 3) := by decide +kernel
theorem d_X_firstBlock_74 : decode b_X_firstBlock 74 = .ok (.iload 5, 2) := by decide +kernel
theorem d_X_firstBlock_76 : decode b_X_firstBlock 76 = .ok (.baload, 1) := by decide +kernel
theorem d_X_firstBlock_77 : decode b_X_firstBlock 77 = .ok (.iadd, 1) := by decide +kernel
theorem d_X_firstBlock_78 : decode b_X_firstBlock 78 = .ok (.istore_n 3, 1) := by decide +kernel
theorem d_X_firstBlock_79 : decode b_X_firstBlock 79 = .ok (.iinc 4 1, 3) := by decide +kernel
theorem d_X_firstBlock_82 : decode b_X_firstBlock 82 = .ok (.goto (-75), 3) := by decide +kernel
theorem d_X_firstBlock_85 : decode b_X_firstBlock 85 = .ok (.aload_n 0, 1) := by decide +kernel
theorem d_X_firstBlock_86 : decode b_X_firstBlock 86 = .ok (.iload_n 3, 1) := by decide +kernel
theorem d_X_firstBlock_87 : decode b_X_firstBlock 87 = .ok (.putfield 97, 3) := by decide +kernel
theorem d_X_firstBlock_90 : decode b_X_firstBlock 90 = .ok (.iload_n 2, 1) := by decide +kernel
theorem d_X_firstBlock_91 : decode b_X_firstBlock 91 = .ok (.ireturn, 1) := by decide +kernel
set_option maxHeartbeats 4000000 in
set_option maxRecDepth 100000 in
theorem lp_X_firstBlock {l : Launch} {D : va_G} {h : Nat → Nat} {cs : Nat → ClassId} {cp : Nat} {cap : Int} {pr : Nat} {fo : Int} {fb pn be : Nat} {N : Nat → Nat → Nat} {K : Kc} (C : Kok D (tysX cs) K b_X_firstBlock 6 R_X 1) {g : Nat} (hg : g < 32) (hg0 : g ≠ 0) (hrd : ∀ j, j < 5 → N 7 j < 128) (hl3 : ∀ j, j < 5 → N 2 j ≤ 3) (hl1 : ∀ j, g.testBit j = true → 1 ≤ N 2 j) (kk : ∀ blk st e, BlkF (N 7) (N 2) g blk st e → J l D K (wX h cs) (cp, cap, pr, fo, fb, pn, be, N) 85 [.ref (h 0), .int (nI g), .int (nI blk), .int (nI e)] []) : ∀ k, k ≤ 5 → ∀ blk t, FB (N 7) (N 2) g k blk t → J l D K (wX h cs) (cp, cap, pr, fo, fb, pn, be, N) 7 [.ref (h 0), .int (nI g), .int (nI blk), .int (iI t), .int (nI k)] [] := by
  refine up_ind 5 ?_
  intro k hk ih blk t hF
  have hb32 := hF.1
  refine j_iload C d_X_firstBlock_7 (x := nI k) rfl ?_
  refine j_iconst C d_X_firstBlock_9 (v := nI 5) (by decide) ?_
  refine j_icmp_ge C d_X_firstBlock_10 (tgt := 85) (by decide) (tI k (by omega)) (tI 5 (by decide)) (fun c_10 => ?_) (fun c_10 => ?_)
  · have hfin := FB_end1 hg hF (by omega)
    obtain ⟨st, e, rfl, hE⟩ := hfin
    rw [← nI_iI e]
    refine j_take 4 rfl ?_
    exact kk _ st _ hE
  · refine j_aload_n C d_X_firstBlock_13 (a := h 0) rfl ?_
    refine j_iload_n C d_X_firstBlock_14 (x := nI g) rfl ?_
    refine j_iload_n C d_X_firstBlock_15 (x := nI blk) rfl ?_
    refine j_iconst C d_X_firstBlock_16 (v := (-1)) (by decide) ?_
    refine j_ixor C d_X_firstBlock_17 (z := nI blk ^^^ (-1)) (rfl) ?_
    refine j_iand C d_X_firstBlock_18 (z := nI (dif g blk)) (nI_dif (by omega) (by omega)) ?_
    refine j_calli C (c_X_earliestOf l D h cs (dif_lt hg) hrd) (As := [.int (nI (dif g blk))]) (rest := []) ok_X_earliestOf ml_X_113 (by decide) d_X_firstBlock_19 (q0 := 0) rfl rfl rfl rfl (Nat.le_of_ble_eq_true rfl) ?_
    intro r u' hp
    obtain ⟨rfl, b, rfl, hb⟩ := hp
    have hbd := eoP_bd hb (Nat.le_refl 5)
    refine j_istore C d_X_firstBlock_22 (Nat.le_of_ble_eq_true rfl) (Nat.le_of_ble_eq_true rfl) (L' := [.ref (h 0), .int (nI g), .int (nI blk), .int (iI t), .int (nI k), .int (iI b)]) rfl ?_
    refine j_iload C d_X_firstBlock_24 (x := iI b) rfl ?_
    refine j_if_ge C d_X_firstBlock_26 (tgt := 32) (by decide) (iI_toInt (z := b) (by omega) (by omega)) (fun c_26 => ?_) (fun c_26 => ?_)
    · obtain ⟨m, rfl, hm, hgm, hmin⟩ := eo_get hb c_26
      rw [← nI_iI m]
      have hrm := hrd m hm
      have hlm := hl3 m hm
      have htb := FB_bd hg hF hrd hl3
      refine j_iload_n C d_X_firstBlock_32 (x := iI t) rfl ?_
      refine j_if_ge C d_X_firstBlock_33 (tgt := 44) (by decide) (iI_toInt (z := t) (by omega) (by omega)) (fun c_33 => ?_) (fun c_33 => ?_)
      · obtain ⟨st, e, rfl, hB⟩ := FB_pos hF c_33
        have hbe := blk_e hB hg hrd hl3
        have hbn := blk_ne hB
        rw [← nI_iI e]
        refine j_iload_n C d_X_firstBlock_44 (x := nI blk) rfl ?_
        refine j_if_eq C d_X_firstBlock_45 (tgt := 62) (by decide) (tI blk (by omega)) (fun c_45 => ?_) (fun c_45 => ?_)
        · exact absurd c_45 (by omega)
        · refine j_aload_n C d_X_firstBlock_48 (a := h 0) rfl ?_
          refine x_get C 11 (v := .ref (h 7)) d_X_firstBlock_49 (by decide) fl_X_11 rfl ?_
          refine j_iload C d_X_firstBlock_52 (x := nI m) rfl ?_
          refine j_bald C 7 6 (f := fun ξ => nI ((N 7) ξ)) (i := m) (v := nI (N 7 m)) d_X_firstBlock_54 rfl rfl (by omega) (by decide) rfl ?_
          refine j_iload_n C d_X_firstBlock_55 (x := nI e) rfl ?_
          refine j_icmp_lt C d_X_firstBlock_56 (tgt := 62) (by decide) (tI (N 7 m) (by omega)) (tI e (by omega)) (fun c_56 => ?_) (fun c_56 => ?_)
          · have hnew := FB_next hg hF hB hm hgm hmin hl1 (by omega)
            refine j_iload_n C d_X_firstBlock_62 (x := nI blk) rfl ?_
            refine j_iconst C d_X_firstBlock_63 (v := nI 1) (by decide) ?_
            refine j_iload C d_X_firstBlock_64 (x := nI m) rfl ?_
            refine j_ishl C d_X_firstBlock_66 (z := nI (2 ^ m)) (nI_shl1 (by omega)) ?_
            refine j_ior C d_X_firstBlock_67 (z := nI (blk ||| (2 ^ m))) (nI_or _ _) ?_
            refine j_istore_n C d_X_firstBlock_68 (Nat.le_of_ble_eq_true rfl) (Nat.le_of_ble_eq_true rfl) (L' := [.ref (h 0), .int (nI g), .int (nI (blk ||| (2 ^ m))), .int (nI e), .int (nI k), .int (nI m)]) rfl ?_
            refine j_iload_n C d_X_firstBlock_69 (x := nI e) rfl ?_
            refine j_aload_n C d_X_firstBlock_70 (a := h 0) rfl ?_
            refine x_get C 4 (v := .ref (h 2)) d_X_firstBlock_71 (by decide) fl_X_4 rfl ?_
            refine j_iload C d_X_firstBlock_74 (x := nI m) rfl ?_
            refine j_bald C 2 1 (f := fun ξ => nI ((N 2) ξ)) (i := m) (v := nI (N 2 m)) d_X_firstBlock_76 rfl rfl (by omega) (by decide) rfl ?_
            refine j_iadd C d_X_firstBlock_77 (z := nI (e + (N 2 m))) (nI_add _ _) ?_
            refine j_istore_n C d_X_firstBlock_78 (Nat.le_of_ble_eq_true rfl) (Nat.le_of_ble_eq_true rfl) (L' := [.ref (h 0), .int (nI g), .int (nI (blk ||| (2 ^ m))), .int (nI (e + (N 2 m))), .int (nI k), .int (nI m)]) rfl ?_
            refine j_iinc C d_X_firstBlock_79 (Nat.le_of_ble_eq_true rfl) (x := nI k) (v := nI (k + 1)) rfl (nI_add _ _) (L' := [.ref (h 0), .int (nI g), .int (nI (blk ||| (2 ^ m))), .int (nI (e + (N 2 m))), .int (nI (k + 1)), .int (nI m)]) rfl ?_
            refine j_goto C d_X_firstBlock_82 (tgt := 7) (by decide) ?_
            refine j_take 5 rfl ?_
            rw [nI_iI (e + (N 2 m))]
            exact ih (by omega) _ _ hnew
          · have hfin := FB_end3 hg hB hmin (by omega)
            refine j_goto C d_X_firstBlock_59 (tgt := 85) (by decide) ?_
            obtain ⟨st, e, he, hE⟩ := hfin
            obtain rfl := Int.ofNat.inj he
            refine j_take 4 rfl ?_
            exact kk _ st _ hE
      · have hk0 := FB_neg hF c_33
        refine j_aload_n C d_X_firstBlock_36 (a := h 0) rfl ?_
        refine x_get C 11 (v := .ref (h 7)) d_X_firstBlock_37 (by decide) fl_X_11 rfl ?_
        refine j_iload C d_X_firstBlock_40 (x := nI m) rfl ?_
        refine j_bald C 7 6 (f := fun ξ => nI ((N 7) ξ)) (i := m) (v := nI (N 7 m)) d_X_firstBlock_42 rfl rfl (by omega) (by decide) rfl ?_
        refine j_istore_n C d_X_firstBlock_43 (Nat.le_of_ble_eq_true rfl) (Nat.le_of_ble_eq_true rfl) (L' := [.ref (h 0), .int (nI g), .int (nI blk), .int (nI (N 7 m)), .int (nI k), .int (nI m)]) rfl ?_
        refine j_iload_n C d_X_firstBlock_44 (x := nI blk) rfl ?_
        refine j_if_eq C d_X_firstBlock_45 (tgt := 62) (by decide) (tI blk (by omega)) (fun c_45 => ?_) (fun c_45 => ?_)
        · have hnew := FB_first hg hF c_33 hm hgm hmin hl1
          refine j_iload_n C d_X_firstBlock_62 (x := nI blk) rfl ?_
          refine j_iconst C d_X_firstBlock_63 (v := nI 1) (by decide) ?_
          refine j_iload C d_X_firstBlock_64 (x := nI m) rfl ?_
          refine j_ishl C d_X_firstBlock_66 (z := nI (2 ^ m)) (nI_shl1 (by omega)) ?_
          refine j_ior C d_X_firstBlock_67 (z := nI (blk ||| (2 ^ m))) (nI_or _ _) ?_
          refine j_istore_n C d_X_firstBlock_68 (Nat.le_of_ble_eq_true rfl) (Nat.le_of_ble_eq_true rfl) (L' := [.ref (h 0), .int (nI g), .int (nI (blk ||| (2 ^ m))), .int (nI (N 7 m)), .int (nI k), .int (nI m)]) rfl ?_
          refine j_iload_n C d_X_firstBlock_69 (x := nI (N 7 m)) rfl ?_
          refine j_aload_n C d_X_firstBlock_70 (a := h 0) rfl ?_
          refine x_get C 4 (v := .ref (h 2)) d_X_firstBlock_71 (by decide) fl_X_4 rfl ?_
          refine j_iload C d_X_firstBlock_74 (x := nI m) rfl ?_
          refine j_bald C 2 1 (f := fun ξ => nI ((N 2) ξ)) (i := m) (v := nI (N 2 m)) d_X_firstBlock_76 rfl rfl (by omega) (by decide) rfl ?_
          refine j_iadd C d_X_firstBlock_77 (z := nI ((N 7 m) + (N 2 m))) (nI_add _ _) ?_
          refine j_istore_n C d_X_firstBlock_78 (Nat.le_of_ble_eq_true rfl) (Nat.le_of_ble_eq_true rfl) (L' := [.ref (h 0), .int (nI g), .int (nI (blk ||| (2 ^ m))), .int (nI ((N 7 m) + (N 2 m))), .int (nI k), .int (nI m)]) rfl ?_
          refine j_iinc C d_X_firstBlock_79 (Nat.le_of_ble_eq_true rfl) (x := nI k) (v := nI (k + 1)) rfl (nI_add _ _) (L' := [.ref (h 0), .int (nI g), .int (nI (blk ||| (2 ^ m))), .int (nI ((N 7 m) + (N 2 m))), .int (nI (k + 1)), .int (nI m)]) rfl ?_
          refine j_goto C d_X_firstBlock_82 (tgt := 7) (by decide) ?_
          refine j_take 5 rfl ?_
          rw [nI_iI ((N 7 m) + (N 2 m))]
          exact ih (by omega) _ _ hnew
        · exact absurd hk0.2 (by omega)
    · have hfin := FB_end2 hg hg0 hF (eo_none hb c_26)
      refine j_goto C d_X_firstBlock_29 (tgt := 85) (by decide) ?_
      obtain ⟨st, e, rfl, hE⟩ := hfin
      rw [← nI_iI e]
      refine j_take 4 rfl ?_
      exact kk _ st _ hE
set_option maxHeartbeats 4000000 in
set_option maxRecDepth 100000 in
/-- firstBlock(g) -/
theorem c_X_firstBlock (l : Launch) (D : va_G) (h : Nat → Nat) (cs : Nat → ClassId) {cp : Nat} {cap : Int} {pr : Nat} {fo : Int} {fb pn be : Nat} {N : Nat → Nat → Nat} {g : Nat} (hg : g < 32) (hg0 : g ≠ 0) (hrd : ∀ j, j < 5 → N 7 j < 128) (hl3 : ∀ j, j < 5 → N 2 j ≤ 3) (hl1 : ∀ j, g.testBit j = true → 1 ≤ N 2 j) : CI l y_X_firstBlock b_X_firstBlock 6 .int 1 D (tysX cs) (wX h cs) (cp, cap, pr, fo, fb, pn, be, N) [.ref (h 0), .int (nI g)] (fun r u' => ∃ blk st e, r = nI blk ∧ u' = (cp, cap, pr, fo, fb, pn, e, N) ∧ BlkF (N 7) (N 2) g blk st e) := by
  refine CI_of ok_X_firstBlock (Nat.le_of_ble_eq_true rfl) (cat_all rfl) ?_
  intro K C hret
  have C : Kok D (tysX cs) K b_X_firstBlock 6 R_X 1 := C
  refine j_iconst C d_X_firstBlock_0 (v := nI 0) (by decide) ?_
  refine j_istore_n C d_X_firstBlock_1 (Nat.le_of_ble_eq_true rfl) (Nat.le_of_ble_eq_true rfl) (L' := [.ref (h 0), .int (nI g), .int (nI 0)]) rfl ?_
  refine j_iconst C d_X_firstBlock_2 (v := iI (-1)) (by decide) ?_
  refine j_istore_n C d_X_firstBlock_3 (Nat.le_of_ble_eq_true rfl) (Nat.le_of_ble_eq_true rfl) (L' := [.ref (h 0), .int (nI g), .int (nI 0), .int (iI (-1))]) rfl ?_
  refine j_iconst C d_X_firstBlock_4 (v := nI 0) (by decide) ?_
  refine j_istore C d_X_firstBlock_5 (Nat.le_of_ble_eq_true rfl) (Nat.le_of_ble_eq_true rfl) (L' := [.ref (h 0), .int (nI g), .int (nI 0), .int (iI (-1)), .int (nI 0)]) rfl ?_
  refine lp_X_firstBlock C hg hg0 hrd hl3 hl1 (fun blk st e hE => ?_) 0 (by omega) 0 (-1) (FB_0 _ _ _)
  refine j_aload_n C d_X_firstBlock_85 (a := h 0) rfl ?_
  refine j_iload_n C d_X_firstBlock_86 (x := nI e) rfl ?_
  refine x_put C 14 (u' := (cp, cap, pr, fo, fb, pn, e, N)) d_X_firstBlock_87 (by decide) fl_X_14 rfl rfl rfl ?_
  refine j_iload_n C d_X_firstBlock_90 (x := nI blk) rfl ?_
  exact hret _ _ _ _ d_X_firstBlock_91 rfl ⟨blk, st, e, rfl, rfl, hE⟩
theorem d_X_push_0 : decode b_X_push 0 = .ok (.iload_n 1, 1) := by decide +kernel
theorem d_X_push_1 : decode b_X_push 1 = .ok (.ifCond .eq 33, 3) := by decide +kernel
theorem d_X_push_4 : decode b_X_push 4 = .ok (.aload_n 0, 1) := by decide +kernel
theorem d_X_push_5 : decode b_X_push 5 = .ok (.getfield 91, 3) := by decide +kernel
theorem d_X_push_8 : decode b_X_push 8 = .ok (.bipush 16, 2) := by decide +kernel
theorem d_X_push_10 : decode b_X_push 10 = .ok (.if_icmp .ge 24, 3) := by decide +kernel
theorem d_X_push_13 : decode b_X_push 13 = .ok (.aload_n 0, 1) := by decide +kernel
theorem d_X_push_14 : decode b_X_push 14 = .ok (.getfield 35, 3) := by decide +kernel
theorem d_X_push_17 : decode b_X_push 17 = .ok (.aload_n 0, 1) := by decide +kernel
theorem d_X_push_18 : decode b_X_push 18 = .ok (.getfield 91, 3) := by decide +kernel
theorem d_X_push_21 : decode b_X_push 21 = .ok (.iload_n 1, 1) := by decide +kernel
theorem d_X_push_22 : decode b_X_push 22 = .ok (.i2b, 1) := by decide +kernel
theorem d_X_push_23 : decode b_X_push 23 = .ok (.bastore, 1) := by decide +kernel
theorem d_X_push_24 : decode b_X_push 24 = .ok (.aload_n 0, 1) := by decide +kernel
theorem d_X_push_25 : decode b_X_push 25 = .ok (.dup, 1) := by decide +kernel
theorem d_X_push_26 : decode b_X_push 26 = .ok (.getfield 91, 3) := by decide +kernel
theorem d_X_push_29 : decode b_X_push 29 = .ok (.iconst 1, 1) := by decide +kernel
theorem d_X_push_30 : decode b_X_push 30 = .ok (.iadd, 1) := by decide +kernel
theorem d_X_push_31 : decode b_X_push 31 = .ok (.putfield 91, 3) := by decide +kernel
theorem d_X_push_34 : decode b_X_push 34 = .ok (.return_, 1) := by decide +kernel
set_option maxHeartbeats 4000000 in
set_option maxRecDepth 100000 in
/-- push(g) -/
theorem c_X_push (l : Launch) (D : va_G) (h : Nat → Nat) (cs : Nat → ClassId) {cp : Nat} {cap : Int} {pr : Nat} {fo : Int} {fb pn be : Nat} {N : Nat → Nat → Nat} {g : Nat} (hg : g < 32) (hpn : pn < 16) : CV l y_X_push b_X_push 2 0 D (tysX cs) (wX h cs) (cp, cap, pr, fo, fb, pn, be, N) [.ref (h 0), .int (nI g)] (fun u' => (g = 0 ∧ u' = (cp, cap, pr, fo, fb, pn, be, N)) ∨ (g ≠ 0 ∧ u' = (cp, cap, pr, fo, fb, pn + 1, be, va_up N 8 (va_up (N 8) pn g)))) := by
  refine CV_of ok_X_push (Nat.le_of_ble_eq_true rfl) (cat_all rfl) ?_
  intro K C hret
  have C : Kok D (tysX cs) K b_X_push 2 R_X 0 := C
  refine j_iload_n C d_X_push_0 (x := nI g) rfl ?_
  refine j_if_eq C d_X_push_1 (tgt := 34) (by decide) (tI g (by omega)) (fun c_1 => ?_) (fun c_1 => ?_)
  · first | exact hret _ _ _ d_X_push_34 (Or.inr ⟨by omega, rfl⟩) | exact hret _ _ _ d_X_push_34 (Or.inl ⟨by omega, rfl⟩) | (exact absurd c_10 (by omega))
  · refine j_aload_n C d_X_push_4 (a := h 0) rfl ?_
    refine x_get C 13 (v := .int (nI pn)) d_X_push_5 (by decide) fl_X_13 rfl ?_
    refine j_bipush C d_X_push_8 (v := nI 16) (by decide) ?_
    refine j_icmp_ge C d_X_push_10 (tgt := 34) (by decide) (tI pn (by omega)) (tI 16 (by decide)) (fun c_10 => ?_) (fun c_10 => ?_)
    · first | exact hret _ _ _ d_X_push_34 (Or.inr ⟨by omega, rfl⟩) | exact hret _ _ _ d_X_push_34 (Or.inl ⟨by omega, rfl⟩) | (exact absurd c_10 (by omega))
    · refine j_aload_n C d_X_push_13 (a := h 0) rfl ?_
      refine x_get C 12 (v := .ref (h 8)) d_X_push_14 (by decide) fl_X_12 rfl ?_
      refine j_aload_n C d_X_push_17 (a := h 0) rfl ?_
      refine x_get C 13 (v := .int (nI pn)) d_X_push_18 (by decide) fl_X_13 rfl ?_
      refine j_iload_n C d_X_push_21 (x := nI g) rfl ?_
      refine j_i2b C d_X_push_22 (z := nI g) (b_byte (by omega)) ?_
      refine j_bast C 8 7 (g := N 8) (i := pn) (v := g) (u' := (cp, cap, pr, fo, fb, pn, be, va_up N 8 (va_up (N 8) pn g))) d_X_push_23 rfl rfl (by omega) (by decide) (by omega) rfl ?_
      refine j_aload_n C d_X_push_24 (a := h 0) rfl ?_
      refine j_dup C d_X_push_25 rfl ?_
      refine x_get C 13 (v := .int (nI pn)) d_X_push_26 (by decide) fl_X_13 rfl ?_
      refine j_iconst C d_X_push_29 (v := nI 1) (by decide) ?_
      refine j_iadd C d_X_push_30 (z := nI (pn + 1)) (nI_add _ _) ?_
      refine x_put C 13 (u' := (cp, cap, pr, fo, fb, pn + 1, be, va_up N 8 (va_up (N 8) pn g))) d_X_push_31 (by decide) fl_X_13 rfl rfl rfl ?_
      first | exact hret _ _ _ d_X_push_34 (Or.inr ⟨by omega, rfl⟩) | exact hret _ _ _ d_X_push_34 (Or.inl ⟨by omega, rfl⟩) | (exact absurd c_10 (by omega))
theorem d_X_pushFollowers_0 : decode b_X_pushFollowers 0 = .ok (.aload_n 0, 1) := by decide +kernel
theorem d_X_pushFollowers_1 : decode b_X_pushFollowers 1 = .ok (.getfield 32, 3) := by decide +kernel
theorem d_X_pushFollowers_4 : decode b_X_pushFollowers 4 = .ok (.iload_n 1, 1) := by decide +kernel
theorem d_X_pushFollowers_5 : decode b_X_pushFollowers 5 = .ok (.baload, 1) := by decide +kernel
theorem d_X_pushFollowers_6 : decode b_X_pushFollowers 6 = .ok (.aload_n 0, 1) := by decide +kernel
theorem d_X_pushFollowers_7 : decode b_X_pushFollowers 7 = .ok (.getfield 13, 3) := by decide +kernel
theorem d_X_pushFollowers_10 : decode b_X_pushFollowers 10 = .ok (.iload_n 1, 1) := by decide +kernel
theorem d_X_pushFollowers_11 : decode b_X_pushFollowers 11 = .ok (.baload, 1) := by decide +kernel
theorem d_X_pushFollowers_12 : decode b_X_pushFollowers 12 = .ok (.iadd, 1) := by decide +kernel
theorem d_X_pushFollowers_13 : decode b_X_pushFollowers 13 = .ok (.istore_n 3, 1) := by decide +kernel
theorem d_X_pushFollowers_14 : decode b_X_pushFollowers 14 = .ok (.aload_n 0, 1) := by decide +kernel
theorem d_X_pushFollowers_15 : decode b_X_pushFollowers 15 = .ok (.getfield 25, 3) := by decide +kernel
theorem d_X_pushFollowers_18 : decode b_X_pushFollowers 18 = .ok (.iload_n 1, 1) := by decide +kernel
theorem d_X_pushFollowers_19 : decode b_X_pushFollowers 19 = .ok (.baload, 1) := by decide +kernel
theorem d_X_pushFollowers_20 : decode b_X_pushFollowers 20 = .ok (.iload_n 2, 1) := by decide +kernel
theorem d_X_pushFollowers_21 : decode b_X_pushFollowers 21 = .ok (.iand, 1) := by decide +kernel
theorem d_X_pushFollowers_22 : decode b_X_pushFollowers 22 = .ok (.istore 4, 2) := by decide +kernel
theorem d_X_pushFollowers_24 : decode b_X_pushFollowers 24 = .ok (.iconst 0, 1) := by decide +kernel
theorem d_X_pushFollowers_25 : decode b_X_pushFollowers 25 = .ok (.istore 5, 2) := by decide +kernel
theorem d_X_pushFollowers_27 : decode b_X_pushFollowers 27 = .ok (.iload 5, 2) := by decide +kernel
theorem d_X_pushFollowers_29 : decode b_X_pushFollowers 29 = .ok (.iconst 5, 1) := by decide +kernel
theorem d_X_pushFollowers_30 : decode b_X_pushFollowers 30 = .ok (.if_icmp .ge 39, 3) := by decide +kernel
theorem d_X_pushFollowers_33 : decode b_X_pushFollowers 33 = .ok (.iload 4, 2) := by decide +kernel
theorem d_X_pushFollowers_35 : decode b_X_pushFollowers 35 = .ok (.iload 5, 2) := by decide +kernel
theorem d_X_pushFollowers_37 : decode b_X_pushFollowers 37 = .ok (.ishr, 1) := by decide +kernel
theorem d_X_pushFollowers_38 : decode b_X_pushFollowers 38 = .ok (.iconst 1, 1) := by decide +kernel
theorem d_X_pushFollowers_39 : decode b_X_pushFollowers 39 = .ok (.iand, 1) := by decide +kernel
theorem d_X_pushFollowers_40 : decode b_X_pushFollowers 40 = .ok (.ifCond .eq 23, 3) := by decide +kernel
theorem d_X_pushFollowers_43 : decode b_X_pushFollowers 43 = .ok (.aload_n 0, 1) := by decide +kernel
theorem d_X_pushFollowers_44 : decode b_X_pushFollowers 44 = .ok (.getfield 32, 3) := by decide +kernel
theorem d_X_pushFollowers_47 : decode b_X_pushFollowers 47 = .ok (.iload 5, 2) := by decide +kernel
theorem d_X_pushFollowers_49 : decode b_X_pushFollowers 49 = .ok (.baload, 1) := by decide +kernel
theorem d_X_pushFollowers_50 : decode b_X_pushFollowers 50 = .ok (.iload_n 3, 1) := by decide +kernel
theorem d_X_pushFollowers_51 : decode b_X_pushFollowers 51 = .ok (.if_icmp .ge 12, 3) := by decide +kernel
theorem d_X_pushFollowers_54 : decode b_X_pushFollowers 54 = .ok (.aload_n 0, 1) := by decide +kernel
theorem d_X_pushFollowers_55 : decode b_X_pushFollowers 55 = .ok (.getfield 32, 3) := by decide +kernel
theorem d_X_pushFollowers_58 : decode b_X_pushFollowers 58 = .ok (.iload 5, 2) := by decide +kernel
theorem d_X_pushFollowers_60 : decode b_X_pushFollowers 60 = .ok (.iload_n 3, 1) := by decide +kernel
theorem d_X_pushFollowers_61 : decode b_X_pushFollowers 61 = .ok (.i2b, 1) := by decide +kernel
theorem d_X_pushFollowers_62 : decode b_X_pushFollowers 62 = .ok (.bastore, 1) := by decide +kernel
theorem d_X_pushFollowers_63 : decode b_X_pushFollowers 63 = .ok (.iinc 5 1, 3) := by decide +kernel
theorem d_X_pushFollowers_66 : decode b_X_pushFollowers 66 = .ok (.goto (-39), 3) := by decide +kernel
theorem d_X_pushFollowers_69 : decode b_X_pushFollowers 69 = .ok (.return_, 1) := by decide +kernel
set_option maxHeartbeats 4000000 in
set_option maxRecDepth 100000 in
theorem lp_X_pushFollowers {l : Launch} {D : va_G} {h : Nat → Nat} {cs : Nat → ClassId} {cp : Nat} {cap : Int} {pr : Nat} {fo : Int} {fb pn be : Nat} {N : Nat → Nat → Nat} {K : Kc} (C : Kok D (tysX cs) K b_X_pushFollowers 6 R_X 0) {i g : Nat} (hi : i < 5) (hg : g < 32) (hN : okN N) (hrd : ∀ j, j < 5 → N 7 j < 128) (hdn : N 7 i + N 2 i < 128) (kk : ∀ rd, pfP (N 7) (N 6 i &&& g) (N 7 i + N 2 i) 5 rd → J l D K (wX h cs) (cp, cap, pr, fo, fb, pn, be, va_up N 7 rd) 69 [.ref (h 0), .int (nI i), .int (nI g), .int (nI (N 7 i + N 2 i)), .int (nI (N 6 i &&& g))] []) : ∀ j, j ≤ 5 → ∀ rd, pfP (N 7) (N 6 i &&& g) (N 7 i + N 2 i) j rd → J l D K (wX h cs) (cp, cap, pr, fo, fb, pn, be, va_up N 7 rd) 27 [.ref (h 0), .int (nI i), .int (nI g), .int (nI (N 7 i + N 2 i)), .int (nI (N 6 i &&& g)), .int (nI j)] [] := by
  refine up_ind 5 ?_
  intro j hj ih rd hF
  have hr := pfP_at hF
  have hbd := pfP_bd hF hrd hdn
  have haf : N 6 i &&& g < 32 := and_lt32 hg
  refine j_iload C d_X_pushFollowers_27 (x := nI j) rfl ?_
  refine j_iconst C d_X_pushFollowers_29 (v := nI 5) (by decide) ?_
  refine j_icmp_ge C d_X_pushFollowers_30 (tgt := 69) (by decide) (tI j (by omega)) (tI 5 (by decide)) (fun c_30 => ?_) (fun c_30 => ?_)
  · obtain rfl : j = 5 := by omega
    refine j_take 5 rfl ?_
    exact kk rd hF
  · refine j_iload C d_X_pushFollowers_33 (x := nI (N 6 i &&& g)) rfl ?_
    refine j_iload C d_X_pushFollowers_35 (x := nI j) rfl ?_
    refine j_ishr C d_X_pushFollowers_37 (z := nI ((N 6 i &&& g) / 2 ^ j)) (nI_shr (by omega) (by omega)) ?_
    refine j_iconst C d_X_pushFollowers_38 (v := nI 1) (by decide) ?_
    refine j_iand C d_X_pushFollowers_39 (z := nI (tb (N 6 i &&& g) j)) (nI_bit (by omega)) ?_
    refine j_if_eq C d_X_pushFollowers_40 (tgt := 63) (by decide) (tI _ (tb_lt _ _)) (fun c_40 => ?_) (fun c_40 => ?_)
    · have b_40 : Nat.testBit (N 6 i &&& g) j = false := tb_f c_40
      have hnew := pfP_skip hF (Or.inl b_40)
      refine j_iinc C d_X_pushFollowers_63 (Nat.le_of_ble_eq_true rfl) (x := nI j) (v := nI (j + 1)) rfl (nI_add _ _) (L' := [.ref (h 0), .int (nI i), .int (nI g), .int (nI (N 7 i + N 2 i)), .int (nI (N 6 i &&& g)), .int (nI (j + 1))]) rfl ?_
      refine j_goto C d_X_pushFollowers_66 (tgt := 27) (by decide) ?_
      exact ih (by omega) _ hnew
    · have b_40 : Nat.testBit (N 6 i &&& g) j = true := tb_t c_40
      refine j_aload_n C d_X_pushFollowers_43 (a := h 0) rfl ?_
      refine x_get C 11 (v := .ref (h 7)) d_X_pushFollowers_44 (by decide) fl_X_11 rfl ?_
      refine j_iload C d_X_pushFollowers_47 (x := nI j) rfl ?_
      refine j_bald C 7 6 (f := fun ξ => nI (rd ξ)) (i := j) (v := nI (rd j)) d_X_pushFollowers_49 rfl rfl (by omega) (by decide) rfl ?_
      have q_49 := hbd j (by omega)
      refine j_iload_n C d_X_pushFollowers_50 (x := nI (N 7 i + N 2 i)) rfl ?_
      refine j_icmp_ge C d_X_pushFollowers_51 (tgt := 63) (by decide) (tI (rd j) (by omega)) (tI (N 7 i + N 2 i) (by omega)) (fun c_51 => ?_) (fun c_51 => ?_)
      · have hnew := pfP_skip hF (Or.inr (by omega))
        refine j_iinc C d_X_pushFollowers_63 (Nat.le_of_ble_eq_true rfl) (x := nI j) (v := nI (j + 1)) rfl (nI_add _ _) (L' := [.ref (h 0), .int (nI i), .int (nI g), .int (nI (N 7 i + N 2 i)), .int (nI (N 6 i &&& g)), .int (nI (j + 1))]) rfl ?_
        refine j_goto C d_X_pushFollowers_66 (tgt := 27) (by decide) ?_
        exact ih (by omega) _ hnew
      · have hnew := pfP_set hF b_40 (by omega)
        refine j_aload_n C d_X_pushFollowers_54 (a := h 0) rfl ?_
        refine x_get C 11 (v := .ref (h 7)) d_X_pushFollowers_55 (by decide) fl_X_11 rfl ?_
        refine j_iload C d_X_pushFollowers_58 (x := nI j) rfl ?_
        refine j_iload_n C d_X_pushFollowers_60 (x := nI (N 7 i + N 2 i)) rfl ?_
        refine j_i2b C d_X_pushFollowers_61 (z := nI (N 7 i + N 2 i)) (b_byte (by omega)) ?_
        refine j_bast C 7 6 (g := rd) (i := j) (v := N 7 i + N 2 i) (u' := (cp, cap, pr, fo, fb, pn, be, va_up N 7 (va_up rd j (N 7 i + N 2 i)))) d_X_pushFollowers_62 rfl rfl (by omega) (by decide) (by omega) rfl ?_
        refine j_iinc C d_X_pushFollowers_63 (Nat.le_of_ble_eq_true rfl) (x := nI j) (v := nI (j + 1)) rfl (nI_add _ _) (L' := [.ref (h 0), .int (nI i), .int (nI g), .int (nI (N 7 i + N 2 i)), .int (nI (N 6 i &&& g)), .int (nI (j + 1))]) rfl ?_
        refine j_goto C d_X_pushFollowers_66 (tgt := 27) (by decide) ?_
        exact ih (by omega) _ hnew
set_option maxHeartbeats 4000000 in
set_option maxRecDepth 100000 in
/-- pushFollowers(i, g) -/
theorem c_X_pushFollowers (l : Launch) (D : va_G) (h : Nat → Nat) (cs : Nat → ClassId) {cp : Nat} {cap : Int} {pr : Nat} {fo : Int} {fb pn be : Nat} {N : Nat → Nat → Nat} {i g : Nat} (hi : i < 5) (hg : g < 32) (hN : okN N) (hrd : ∀ j, j < 5 → N 7 j < 128) (hdn : N 7 i + N 2 i < 128) : CV l y_X_pushFollowers b_X_pushFollowers 6 0 D (tysX cs) (wX h cs) (cp, cap, pr, fo, fb, pn, be, N) [.ref (h 0), .int (nI i), .int (nI g)] (fun u' => ∃ rd, u' = (cp, cap, pr, fo, fb, pn, be, va_up N 7 rd) ∧ pfP (N 7) (N 6 i &&& g) (N 7 i + N 2 i) 5 rd) := by
  refine CV_of ok_X_pushFollowers (Nat.le_of_ble_eq_true rfl) (cat_all rfl) ?_
  intro K C hret
  have C : Kok D (tysX cs) K b_X_pushFollowers 6 R_X 0 := C
  obtain ⟨h1, h2, h3, h4, h5, h6⟩ := hN i hi
  refine j_aload_n C d_X_pushFollowers_0 (a := h 0) rfl ?_
  refine x_get C 11 (v := .ref (h 7)) d_X_pushFollowers_1 (by decide) fl_X_11 rfl ?_
  refine j_iload_n C d_X_pushFollowers_4 (x := nI i) rfl ?_
  refine j_bald C 7 6 (f := fun ξ => nI ((N 7) ξ)) (i := i) (v := nI (N 7 i)) d_X_pushFollowers_5 rfl rfl (by omega) (by decide) rfl ?_
  refine j_aload_n C d_X_pushFollowers_6 (a := h 0) rfl ?_
  refine x_get C 4 (v := .ref (h 2)) d_X_pushFollowers_7 (by decide) fl_X_4 rfl ?_
  refine j_iload_n C d_X_pushFollowers_10 (x := nI i) rfl ?_
  refine j_bald C 2 1 (f := fun ξ => nI ((N 2) ξ)) (i := i) (v := nI (N 2 i)) d_X_pushFollowers_11 rfl rfl (by omega) (by decide) rfl ?_
  refine j_iadd C d_X_pushFollowers_12 (z := nI ((N 7 i) + (N 2 i))) (nI_add _ _) ?_
  refine j_istore_n C d_X_pushFollowers_13 (Nat.le_of_ble_eq_true rfl) (Nat.le_of_ble_eq_true rfl) (L' := [.ref (h 0), .int (nI i), .int (nI g), .int (nI ((N 7 i) + (N 2 i)))]) rfl ?_
  refine j_aload_n C d_X_pushFollowers_14 (a := h 0) rfl ?_
  refine x_get C 8 (v := .ref (h 6)) d_X_pushFollowers_15 (by decide) fl_X_8 rfl ?_
  refine j_iload_n C d_X_pushFollowers_18 (x := nI i) rfl ?_
  refine j_bald C 6 5 (f := fun ξ => nI ((N 6) ξ)) (i := i) (v := nI (N 6 i)) d_X_pushFollowers_19 rfl rfl (by omega) (by decide) rfl ?_
  refine j_iload_n C d_X_pushFollowers_20 (x := nI g) rfl ?_
  refine j_iand C d_X_pushFollowers_21 (z := nI ((N 6 i) &&& g)) (nI_and _ _) ?_
  refine j_istore C d_X_pushFollowers_22 (Nat.le_of_ble_eq_true rfl) (Nat.le_of_ble_eq_true rfl) (L' := [.ref (h 0), .int (nI i), .int (nI g), .int (nI ((N 7 i) + (N 2 i))), .int (nI ((N 6 i) &&& g))]) rfl ?_
  refine j_iconst C d_X_pushFollowers_24 (v := nI 0) (by decide) ?_
  refine j_istore C d_X_pushFollowers_25 (Nat.le_of_ble_eq_true rfl) (Nat.le_of_ble_eq_true rfl) (L' := [.ref (h 0), .int (nI i), .int (nI g), .int (nI ((N 7 i) + (N 2 i))), .int (nI ((N 6 i) &&& g)), .int (nI 0)]) rfl ?_
  refine j_same (u' := (cp, cap, pr, fo, fb, pn, be, va_up N 7 (N 7))) rfl ?_
  refine lp_X_pushFollowers C hi hg hN hrd hdn (fun rd hF => ?_) 0 (by omega) (N 7) (pfP_0 _ _ _)
  exact hret _ _ _ d_X_pushFollowers_69 ⟨rd, rfl, hF⟩
end
section
/-! ===== plans: a plan gives each unit of time to a job (below 5) or to none ===== -/
def cnt (σ : Nat → Nat) (j : Nat) : Nat → Nat
  | 0 => 0
  | t + 1 => cnt σ j t + if σ t = j then 1 else 0
theorem cnt_mono {σ : Nat → Nat} {j : Nat} : ∀ {t t' : Nat}, t ≤ t' → cnt σ j t ≤ cnt σ j t' := by
  intro t t' h
  induction t' with
  | zero => have : t = 0 := by omega
            subst this; exact Nat.le_refl _
  | succ n ih =>
    by_cases h1 : t = n + 1
    · subst h1; exact Nat.le_refl _
    · have := ih (by omega)
      simp only [cnt]
      omega
theorem cnt_hit {σ : Nat → Nat} {j t : Nat} (h : σ t = j) : cnt σ j (t + 1) = cnt σ j t + 1 := by simp [cnt, h]
theorem cnt_miss {σ : Nat → Nat} {j t : Nat} (h : σ t ≠ j) : cnt σ j (t + 1) = cnt σ j t := by simp [cnt, h]
theorem cnt_none {σ : Nat → Nat} {j a : Nat} : ∀ {b : Nat}, a ≤ b → (∀ u, a ≤ u → u < b → σ u ≠ j) → cnt σ j b = cnt σ j a := by
  intro b
  induction b with
  | zero => intro h _; have : a = 0 := by omega
            subst this; rfl
  | succ n ih =>
    intro h hn
    by_cases h1 : a = n + 1
    · subst h1; rfl
    · rw [cnt_miss (hn n (by omega) (by omega))]
      exact ih (by omega) (fun u h2 h3 => hn u h2 (by omega))
theorem cnt_same {σ τ : Nat → Nat} {j : Nat} : ∀ {T : Nat}, (∀ u, u < T → (σ u = j ↔ τ u = j)) → cnt σ j T = cnt τ j T := by
  intro T
  induction T with
  | zero => intro _; rfl
  | succ n ih =>
    intro h
    have h1 := ih (fun u hu => h u (by omega))
    by_cases hc : σ n = j
    · rw [cnt_hit hc, cnt_hit ((h n (by omega)).mp hc), h1]
    · rw [cnt_miss hc, cnt_miss (fun z => hc ((h n (by omega)).mpr z)), h1]
/-- units that the jobs of B have had before t -/
def cB (σ : Nat → Nat) (B t : Nat) : Nat := sm B (fun j => cnt σ j t)
theorem cB_0 (σ : Nat → Nat) (B : Nat) : cB σ B 0 = 0 := by simp [cB, sm, cnt]
theorem cB_hit {σ : Nat → Nat} {B t : Nat} (hB : B < 32) (h : B.testBit (σ t) = true) : cB σ B (t + 1) = cB σ B t + 1 := by
  have h5 := lt5_of hB h
  unfold cB sm
  have hc : σ t = 0 ∨ σ t = 1 ∨ σ t = 2 ∨ σ t = 3 ∨ σ t = 4 := by omega
  rcases hc with hc | hc | hc | hc | hc <;> rw [hc] at h <;> simp [cnt, hc, h] <;> omega
theorem cB_miss {σ : Nat → Nat} {B t : Nat} (h : B.testBit (σ t) = false) : cB σ B (t + 1) = cB σ B t := by
  refine sm_congr fun j _ hb => ?_
  refine cnt_miss fun z => ?_
  rw [z, hb] at h
  cases h
theorem cB_step {σ : Nat → Nat} {B : Nat} (hB : B < 32) (t : Nat) : cB σ B t ≤ cB σ B (t + 1) ∧ cB σ B (t + 1) ≤ cB σ B t + 1 := by
  cases h : B.testBit (σ t)
  · rw [cB_miss h]; omega
  · rw [cB_hit hB h]; omega
theorem cB_le {σ : Nat → Nat} {B : Nat} (hB : B < 32) : ∀ {a b : Nat}, a ≤ b → cB σ B a ≤ cB σ B b ∧ cB σ B b ≤ cB σ B a + (b - a) := by
  intro a b
  induction b with
  | zero => intro h; have : a = 0 := by omega
            subst this; omega
  | succ n ih =>
    intro h
    by_cases h1 : a = n + 1
    · subst h1; omega
    · have := ih (by omega)
      have := cB_step (σ := σ) hB n
      omega
theorem cB_busy {σ : Nat → Nat} {B : Nat} (hB : B < 32) {a : Nat} : ∀ {b : Nat}, a ≤ b → (∀ u, a ≤ u → u < b → B.testBit (σ u) = true) → cB σ B b = cB σ B a + (b - a) := by
  intro b
  induction b with
  | zero => intro h _; have : a = 0 := by omega
            subst this; omega
  | succ n ih =>
    intro h hb
    by_cases h1 : a = n + 1
    · subst h1; omega
    · have := ih (by omega) (fun u h2 h3 => hb u h2 (by omega))
      rw [cB_hit hB (hb n (by omega) (by omega)), this]
      omega
theorem cB_idle {σ : Nat → Nat} {B : Nat} {a : Nat} : ∀ {b : Nat}, a ≤ b → (∀ u, a ≤ u → u < b → B.testBit (σ u) = false) → cB σ B b = cB σ B a := by
  intro b
  induction b with
  | zero => intro h _; have : a = 0 := by omega
            subst this; rfl
  | succ n ih =>
    intro h hb
    by_cases h1 : a = n + 1
    · subst h1; rfl
    · rw [cB_miss (hb n (by omega) (by omega))]
      exact ih (by omega) (fun u h2 h3 => hb u h2 (by omega))
/-- the last place in an interval with a property, or none -/
theorem last_or (P : Nat → Prop) (a : Nat) : ∀ b, a ≤ b → (∀ u, a ≤ u → u < b → ¬ P u) ∨ ∃ t, a ≤ t ∧ t < b ∧ P t ∧ ∀ u, t < u → u < b → ¬ P u := by
  intro b
  induction b with
  | zero => intro h; exact Or.inl fun u h1 h2 => by omega
  | succ n ih =>
    intro h
    by_cases h1 : a = n + 1
    · exact Or.inl fun u h2 h3 => by omega
    · by_cases hp : P n
      · exact Or.inr ⟨n, by omega, by omega, hp, fun u h2 h3 => by omega⟩
      · rcases ih (by omega) with h2 | ⟨t, h2, h3, h4, h5⟩
        · refine Or.inl fun u h3 h4 => ?_
          rcases lt_succ_cases h4 with q | rfl
          · exact h2 u h3 q
          · exact hp
        · refine Or.inr ⟨t, h2, by omega, h4, fun u h6 h7 => ?_⟩
          rcases lt_succ_cases h7 with q | rfl
          · exact h5 u h6 q
          · exact hp
/-- the plan keeps the rules for the jobs g: E i j: i before j; ok j t: job j may have unit t -/
def Val (g : Nat) (rel len : Nat → Nat) (E ok : Nat → Nat → Prop) (σ : Nat → Nat) : Prop := ∀ t, σ t < 5 → g.testBit (σ t) = true ∧ cnt σ (σ t) t < len (σ t) ∧ rel (σ t) ≤ t ∧ ok (σ t) t ∧ ∀ i, g.testBit i = true → E i (σ t) → len i ≤ cnt σ i t
/-- a plan for the jobs g within 34 units -/
def Feas (g : Nat) (rel len : Nat → Nat) (E ok : Nat → Nat → Prop) : Prop := ∃ σ, Val g rel len E ok σ ∧ ∀ j, g.testBit j = true → len j ≤ cnt σ j 34
/-- no idle unit while a ready job waits -/
def Wc (g : Nat) (rd len : Nat → Nat) (σ : Nat → Nat) : Prop := ∀ t, ¬ σ t < 5 → ∀ j, g.testBit j = true → rd j ≤ t → len j ≤ cnt σ j t
def Good (g : Nat) (rd len : Nat → Nat) (E ok : Nat → Nat → Prop) (T : Nat) : Prop := ∃ σ, Val g rd len E ok σ ∧ Wc g rd len σ ∧ ∀ j, g.testBit j = true → len j ≤ cnt σ j T
section PLANS
variable {g : Nat} {rel rd len : Nat → Nat} {E ok : Nat → Nat → Prop} {σ : Nat → Nat}
theorem val_le (h : Val g rel len E ok σ) {j : Nat} (hj : j < 5) : ∀ t, cnt σ j t ≤ len j := by
  intro t
  induction t with
  | zero => exact Nat.zero_le _
  | succ n ih =>
    by_cases hc : σ n = j
    · have := (h n (by omega)).2.1
      rw [hc] at this
      rw [cnt_hit hc]
      omega
    · rw [cnt_miss hc]; exact ih
theorem val_sub (h : Val g rel len E ok σ) {j : Nat} (hj : j < 5) : ∀ t, cnt σ j t ≤ t - rel j := by
  intro t
  induction t with
  | zero => exact Nat.zero_le _
  | succ n ih =>
    by_cases hc : σ n = j
    · have := (h n (by omega)).2.2.1
      rw [hc] at this
      rw [cnt_hit hc]
      omega
    · rw [cnt_miss hc]; omega
theorem val_bit (h : Val g rel len E ok σ) (hg : g < 32) {t : Nat} : g.testBit (σ t) = true ↔ σ t < 5 := ⟨fun q => lt5_of hg q, fun q => (h t q).1⟩
theorem val_tot (h : Val g rel len E ok σ) {B : Nat} (t : Nat) : cB σ B t ≤ sm B len := sm_le fun j hj _ => val_le h hj t
theorem val_none (h : Val g rel len E ok σ) {j : Nat} (hj : j < 5) (hn : g.testBit j = false) (t : Nat) : cnt σ j t = 0 := by
  rw [cnt_none (a := 0) (Nat.zero_le t)]
  · rfl
  · intro u _ _ z
    have := (h u (by omega)).1
    rw [z, hn] at this
    cases this
/-- the last units of a block that any plan has -/
theorem blk_low {B st T : Nat} (h : Val g rel len E ok σ) (hg : g < 32) (hrd : ∀ t, σ t < 5 → rd (σ t) ≤ t) (hB : ∀ j, B.testBit j = true → g.testBit j = true) (hB32 : B < 32) (hB0 : B ≠ 0) (hst : ∀ j, B.testBit j = true → st ≤ rd j) (hlen : ∀ j, g.testBit j = true → 1 ≤ len j) (hT : ∀ j, g.testBit j = true → len j ≤ cnt σ j T) :
    ∃ j t, B.testBit j = true ∧ t < T ∧ σ t = j ∧ st + sm B len ≤ t + 1 ∧ ∀ k, B.testBit k = true → ¬ E j k := by
  have hfull : sm B len ≤ cB σ B T := sm_le fun j hj hb => hT j (hB j hb)
  obtain ⟨j0, hj0, hb0⟩ := bit_ne hB32 hB0
  have hpos : 1 ≤ sm B len := Nat.le_trans (hlen j0 (hB j0 hb0)) (sm_pos hj0 hb0)
  rcases last_or (fun t => B.testBit (σ t) = true) 0 T (Nat.zero_le _) with hn | ⟨t, -, ht, hb, hlast⟩
  · have := cB_idle (σ := σ) (B := B) (Nat.zero_le T) (fun u h1 h2 => by simpa using hn u h1 h2)
    rw [cB_0] at this
    omega
  · have h5 := lt5_of hB32 hb
    have e1 : cB σ B T = cB σ B (t + 1) := cB_idle (by omega) (fun u h1 h2 => by simpa using hlast u (by omega) h2)
    have e2 : cB σ B (t + 1) ≤ t + 1 - st := by
      by_cases hs : st ≤ t + 1
      · have e3 : cB σ B st = 0 := by
          rw [cB_idle (Nat.zero_le st), cB_0]
          intro u _ hu
          cases hz : B.testBit (σ u)
          · rfl
          · have h1 := hst _ hz
            have h2 := hrd u (lt5_of hB32 hz)
            omega
        have := (cB_le (σ := σ) hB32 hs).2
        omega
      · have h1 := hst _ hb
        have h2 := hrd t h5
        omega
    refine ⟨σ t, t, hb, ht, rfl, by omega, fun k hk hE => ?_⟩
    have hk1 := hlen k (hB k hk)
    have hk2 := hT k (hB k hk)
    rcases last_or (fun u => σ u = k) 0 T (Nat.zero_le _) with hn | ⟨t', -, ht', hb', -⟩
    · have := cnt_none (σ := σ) (j := k) (Nat.zero_le T) hn
      simp only [cnt] at this
      omega
    · have h6 := (h t' (by rw [hb']; exact lt5_of hB32 hk)).2.2.2.2 (σ t) (hB _ hb) (by rw [hb']; exact hE)
      have h7 := (h t h5).2.1
      have h8 : t < t' := by
        rcases Nat.lt_or_ge t t' with q | q
        · exact q
        · have := cnt_mono (σ := σ) (j := σ t) q
          omega
      exact hlast t' h8 ht' (by rw [hb']; exact hk)
end PLANS
end
section
/-! ===== a plan of a group out of plans of its parts ===== -/
section COMP
variable {g : Nat} {rel rd len : Nat → Nat} {E ok : Nat → Nat → Prop}
theorem good_T {T T' : Nat} (h : Good g rd len E ok T) (hT : T ≤ T') : Good g rd len E ok T' := by
  obtain ⟨σ, h1, h2, h3⟩ := h
  exact ⟨σ, h1, h2, fun j hj => Nat.le_trans (h3 j hj) (cnt_mono hT)⟩
theorem good_0 (T : Nat) : Good 0 rd len E ok T := ⟨fun _ => 5, fun t h => absurd h (Nat.lt_irrefl 5), fun t _ j hj => by simp at hj, fun j hj => by simp at hj⟩
theorem sm_split {b l : Nat} {f : Nat → Nat} (hb : b < 32) (hl : b.testBit l = true) : sm b f = sm (dif b (2 ^ l)) f + f l := by
  have h5 := lt5_of hb hl
  have e : dif b (2 ^ l) ||| 2 ^ l = b := by
    refine bit_ext (or_lt (dif_lt hb) (pow_lt h5)) hb fun i hi => ?_
    rw [Nat.testBit_or, dif_bit hb, one_bit]
    by_cases hc : l = i
    · subst hc; simp [hl]
    · simp [hc]
  have hn : (dif b (2 ^ l)).testBit l = false := by rw [dif_bit hb, one_bit]; simp
  have := sm_add (f := f) h5 hn
  rw [e] at this
  exact this
/-- the first block's jobs but the last one are done within the block -/
theorem blk_done {blk st e l : Nat} {σ : Nat → Nat} (hB : Blk rd len g blk st e) (hl : blk.testBit l = true) (hlen : 1 ≤ len l) (h : Val (dif blk (2 ^ l)) rd len E ok σ) (hw : Wc (dif blk (2 ^ l)) rd len σ) :
    ∀ j, (dif blk (2 ^ l)).testBit j = true → len j ≤ cnt σ j e := by
  obtain ⟨h1, h2, h3, h4, h5, h6, h7⟩ := hB
  have hd32 : dif blk (2 ^ l) < 32 := dif_lt h1
  have hS := sm_split (f := len) h1 hl
  have hin : ∀ j, (dif blk (2 ^ l)).testBit j = true → blk.testBit j = true := fun j hj => ((dif_t h1).mp hj).1
  have hst : cB σ (dif blk (2 ^ l)) st = 0 := by
    rw [cB_idle (Nat.zero_le st), cB_0]
    intro u _ hu
    cases hz : (dif blk (2 ^ l)).testBit (σ u)
    · rfl
    · have a1 := (h3 _ (hin _ hz)).1
      have a2 := (h u (lt5_of hd32 hz)).2.2.1
      omega
  have hse : st ≤ e := by omega
  refine fun j hj => Classical.byContradiction fun hc => ?_
  have hj5 := lt5_of hd32 hj
  have hlack : cB σ (dif blk (2 ^ l)) e + 1 ≤ sm (dif blk (2 ^ l)) len := by
    have a1 := sm_split (b := dif blk (2 ^ l)) (f := len) hd32 hj
    have a2 := sm_split (b := dif blk (2 ^ l)) (f := fun j => cnt σ j e) hd32 hj
    have a3 : sm (dif (dif blk (2 ^ l)) (2 ^ j)) (fun j => cnt σ j e) ≤ sm (dif (dif blk (2 ^ l)) (2 ^ j)) len := sm_le fun i hi _ => val_le h hi e
    unfold cB
    omega
  rcases last_or (fun t => ¬ σ t < 5) st e hse with hn | ⟨t0, t1, t2, t3, t4⟩
  · have := cB_busy (σ := σ) hd32 hse (fun u a1 a2 => (h u (Classical.byContradiction fun z => hn u a1 a2 z)).1)
    omega
  · have a1 := cB_busy (σ := σ) hd32 (a := t0 + 1) (b := e) (by omega) (fun u b1 b2 => (h u (Classical.byContradiction fun z => t4 u (by omega) b2 z)).1)
    have a2 := (cB_step (σ := σ) hd32 t0).1
    have a3 : sm (dif blk (2 ^ l)) (fun j => if rd j ≤ t0 then len j else 0) ≤ cB σ (dif blk (2 ^ l)) t0 := by
      refine sm_le fun i hi hb => ?_
      by_cases hr : rd i ≤ t0
      · rw [if_pos hr]; exact hw t0 t3 i hb hr
      · rw [if_neg hr]; exact Nat.zero_le _
    have a4 := h5 t0 t1 t2
    have a5 := sm_split (f := fun j => if rd j ≤ t0 then len j else 0) h1 hl
    have a6 : (if rd l ≤ t0 then len l else 0) ≤ len l := by split <;> omega
    have a7 : (fun j => if rd j ≤ t0 then len j else 0) l = if rd l ≤ t0 then len l else 0 := rfl
    omega
/-- the plan of a group: its first block's plan, the last job in what that leaves free, then the rest's -/
def mixp (σB σR : Nat → Nat) (st e l : Nat) : Nat → Nat := fun t => if t < e then (if σB t < 5 then σB t else if st ≤ t then l else 5) else σR t
set_option maxHeartbeats 4000000 in
theorem good_comp {blk st e l T1 T2 : Nat} (hg : g < 32) (hF : BlkF rd len g blk st e) (hl : blk.testBit l = true) (hlE : ∀ j, blk.testBit j = true → ¬ E l j) (hE : ∀ i j, g.testBit i = true → g.testBit j = true → E i j → rd i + len i ≤ rd j) (hlen : ∀ j, g.testBit j = true → 1 ≤ len j) (hok : ∀ t, t < e → ok l t)
    (hGB : Good (dif blk (2 ^ l)) rd len E ok T1) (hGR : Good (dif g blk) rd len E ok T2) (hT : e ≤ T2) : Good g rd len E ok T2 := by
  obtain ⟨hB, hR⟩ := hF
  obtain ⟨σB, vB, wB, -⟩ := hGB
  obtain ⟨σR, vR, wR, cR⟩ := hGR
  have hdone := blk_done hB hl (hlen l (hB.2.1 l hl)) vB wB
  obtain ⟨h1, h2, h3, h4, h5, h6, h7⟩ := hB
  have hd32 : dif blk (2 ^ l) < 32 := dif_lt h1
  have hr32 : dif g blk < 32 := dif_lt hg
  have hl5 := lt5_of h1 hl
  have hS := sm_split (f := len) h1 hl
  have hBb : ∀ j, (dif blk (2 ^ l)).testBit j = true ↔ blk.testBit j = true ∧ l ≠ j := by
    intro j
    rw [dif_t h1, one_bit]
    simp
  have hRb : ∀ j, (dif g blk).testBit j = true ↔ g.testBit j = true ∧ blk.testBit j = false := fun j => dif_t hg
  have hse : st ≤ e := by omega
  -- where σ's values come from
  have s1 : ∀ t, t < e → σB t < 5 → mixp σB σR st e l t = σB t := fun t a b => by simp [mixp, a, b]
  have s2 : ∀ t, t < e → ¬ σB t < 5 → st ≤ t → mixp σB σR st e l t = l := fun t a b c => by simp [mixp, a, b, c]
  have s3 : ∀ t, t < e → ¬ σB t < 5 → ¬ st ≤ t → mixp σB σR st e l t = 5 := fun t a b c => by simp [mixp, a, b, c]
  have s4 : ∀ t, e ≤ t → mixp σB σR st e l t = σR t := fun t a => by simp [mixp, Nat.not_lt.mpr a]
  have bB : ∀ t, σB t < 5 → blk.testBit (σB t) = true ∧ l ≠ σB t := fun t a => (hBb _).mp (vB t a).1
  have bR : ∀ t, σR t < 5 → g.testBit (σR t) = true ∧ blk.testBit (σR t) = false := fun t a => (hRb _).mp (vR t a).1
  -- counts of the jobs of the block but l
  have c1 : ∀ j, blk.testBit j = true → l ≠ j → ∀ t, t ≤ e → cnt (mixp σB σR st e l) j t = cnt σB j t := by
    intro j hj hlj t ht
    have hj5 := lt5_of h1 hj
    refine cnt_same fun u hu => ?_
    by_cases hb : σB u < 5
    · rw [s1 u (by omega) hb]
    · by_cases hs : st ≤ u
      · rw [s2 u (by omega) hb hs]
        exact ⟨fun z => absurd z hlj, fun z => absurd z (by omega)⟩
      · rw [s3 u (by omega) hb hs]
        exact ⟨fun z => absurd z (by omega), fun z => absurd z (by omega)⟩
  have c2 : ∀ j, blk.testBit j = true → l ≠ j → ∀ t, e ≤ t → len j ≤ cnt (mixp σB σR st e l) j t := by
    intro j hj hlj t ht
    refine Nat.le_trans ?_ (cnt_mono ht)
    rw [c1 j hj hlj e (Nat.le_refl _)]
    exact hdone j ((hBb j).mpr ⟨hj, hlj⟩)
  -- counts of the rest
  have zR : ∀ j, g.testBit j = true → blk.testBit j = false → ∀ u, u < e → σR u ≠ j := by
    intro j hj hn u hu z
    have a1 := (vR u (by rw [z]; exact lt5_of hg hj)).2.2.1
    have a2 := hR j hj hn
    rw [z] at a1
    omega
  have c3 : ∀ j, g.testBit j = true → blk.testBit j = false → ∀ t, cnt (mixp σB σR st e l) j t = cnt σR j t := by
    intro j hj hn t
    refine cnt_same fun u hu => ?_
    by_cases hue : u < e
    · refine ⟨fun z => ?_, fun z => absurd z (zR j hj hn u hue)⟩
      by_cases hb : σB u < 5
      · rw [s1 u hue hb] at z
        have := (bB u hb).1
        rw [z, hn] at this
        cases this
      · by_cases hs : st ≤ u
        · rw [s2 u hue hb hs] at z
          rw [← z, hl] at hn
          cases hn
        · rw [s3 u hue hb hs] at z
          have := lt5_of hg hj
          omega
    · rw [s4 u (by omega)]
  -- counts of l
  have hz : cB σB (dif blk (2 ^ l)) st = 0 := by
    rw [cB_idle (Nat.zero_le st), cB_0]
    intro u _ hu
    cases hz : (dif blk (2 ^ l)).testBit (σB u)
    · rfl
    · have a0 := (hBb _).mp hz
      have a1 := (h3 _ a0.1).1
      have a2 := (vB u (lt5_of hd32 hz)).2.2.1
      omega
  have c40 : ∀ t, t ≤ st → cnt (mixp σB σR st e l) l t = 0 := by
    intro t ht
    rw [cnt_none (a := 0) (Nat.zero_le t)]
    · rfl
    · intro u _ hu z
      by_cases hb : σB u < 5
      · rw [s1 u (by omega) hb] at z
        exact (bB u hb).2 z.symm
      · rw [s3 u (by omega) hb (by omega)] at z
        omega
  have c4 : ∀ n, st + n ≤ e → cnt (mixp σB σR st e l) l (st + n) + cB σB (dif blk (2 ^ l)) (st + n) = n := by
    intro n
    induction n with
    | zero => intro _; rw [Nat.add_zero, c40 st (Nat.le_refl _), hz]
    | succ n ih =>
      intro hn
      have ih := ih (by omega)
      by_cases hb : σB (st + n) < 5
      · have a1 := cB_hit (σ := σB) (t := st + n) hd32 (vB _ hb).1
        have a2 : cnt (mixp σB σR st e l) l (st + n + 1) = cnt (mixp σB σR st e l) l (st + n) := cnt_miss (by rw [s1 _ (by omega) hb]; exact fun z => (bB _ hb).2 z.symm)
        rw [← Nat.add_assoc, a1, a2]
        omega
      · have a1 : cB σB (dif blk (2 ^ l)) (st + n + 1) = cB σB (dif blk (2 ^ l)) (st + n) := cB_miss (by
          cases hz : (dif blk (2 ^ l)).testBit (σB (st + n))
          · rfl
          · exact absurd (lt5_of hd32 hz) hb)
        have a2 : cnt (mixp σB σR st e l) l (st + n + 1) = cnt (mixp σB σR st e l) l (st + n) + 1 := cnt_hit (s2 _ (by omega) hb (by omega))
        rw [← Nat.add_assoc, a1, a2]
        omega
  have hBe : cB σB (dif blk (2 ^ l)) e = sm (dif blk (2 ^ l)) len := Nat.le_antisymm (val_tot vB e) (sm_le fun j _ hb => hdone j hb)
  have c5 : cnt (mixp σB σR st e l) l e = len l := by
    have := c4 (e - st) (by omega)
    rw [show st + (e - st) = e by omega, hBe] at this
    omega
  have inB : ∀ j, g.testBit j = true → rd j < e → blk.testBit j = true := by
    intro j hj hr
    cases hb : blk.testBit j
    · have := hR j hj hb
      omega
    · rfl
  refine ⟨mixp σB σR st e l, ?_, ?_, ?_⟩
  · intro t ht
    by_cases hte : t < e
    · by_cases hb : σB t < 5
      · rw [s1 t hte hb] at ht ⊢
        obtain ⟨b1, b2⟩ := bB t hb
        obtain ⟨v1, v2, v3, v4, v5⟩ := vB t hb
        refine ⟨h2 _ b1, by rw [c1 _ b1 b2 t (by omega)]; exact v2, v3, v4, fun i hi hiE => ?_⟩
        have a1 := hE i _ hi (h2 _ b1) hiE
        have a2 := inB i hi (by omega)
        have a3 : l ≠ i := fun z => hlE _ b1 (z ▸ hiE)
        rw [c1 i a2 a3 t (by omega)]
        exact v5 i ((hBb i).mpr ⟨a2, a3⟩) hiE
      · by_cases hs : st ≤ t
        · rw [s2 t hte hb hs] at ht ⊢
          have hrl : rd l ≤ t := by
            refine Classical.byContradiction fun z => ?_
            have a1 := h5 t hs hte
            have a2 := sm_split (f := fun j => if rd j ≤ t then len j else 0) h1 hl
            have a7 : (if rd l ≤ t then len l else 0) = 0 := if_neg z
            have a3 : sm (dif blk (2 ^ l)) (fun j => if rd j ≤ t then len j else 0) ≤ cB σB (dif blk (2 ^ l)) t := by
              refine sm_le fun i hi hbi => ?_
              by_cases hr : rd i ≤ t
              · rw [if_pos hr]; exact wB t hb i hbi hr
              · rw [if_neg hr]; exact Nat.zero_le _
            have a4 := (cB_le (σ := σB) hd32 hs).2
            omega
          have e1 : cnt (mixp σB σR st e l) l (t + 1) = cnt (mixp σB σR st e l) l t + 1 := cnt_hit (s2 t hte hb hs)
          have e2 := cnt_mono (σ := mixp σB σR st e l) (j := l) (show t + 1 ≤ e by omega)
          refine ⟨h2 _ hl, by omega, hrl, hok t hte, fun i hi hiE => ?_⟩
          have a1 := hE i l hi (h2 _ hl) hiE
          have a0 := hlen i hi
          have a2 := inB i hi (by omega)
          have a3 : l ≠ i := fun z => by rw [z] at a1; omega
          rw [c1 i a2 a3 t (by omega)]
          exact wB t hb i ((hBb i).mpr ⟨a2, a3⟩) (by omega)
        · rw [s3 t hte hb hs] at ht
          omega
    · rw [s4 t (by omega)] at ht ⊢
      obtain ⟨b1, b2⟩ := bR t ht
      obtain ⟨v1, v2, v3, v4, v5⟩ := vR t ht
      refine ⟨b1, by rw [c3 _ b1 b2]; exact v2, v3, v4, fun i hi hiE => ?_⟩
      cases hib : blk.testBit i
      · rw [c3 i hi hib]
        exact v5 i ((hRb i).mpr ⟨hi, hib⟩) hiE
      · by_cases hli : l = i
        · subst hli
          have := cnt_mono (σ := mixp σB σR st e l) (j := l) (show e ≤ t by omega)
          omega
        · exact c2 i hib hli t (by omega)
  · intro t ht j hj hrj
    by_cases hte : t < e
    · exfalso
      by_cases hb : σB t < 5
      · rw [s1 t hte hb] at ht; exact ht hb
      · by_cases hs : st ≤ t
        · rw [s2 t hte hb hs] at ht; exact ht hl5
        · have a1 := inB j hj (by omega)
          have a2 := (h3 j a1).1
          omega
    · rw [s4 t (by omega)] at ht
      cases hjb : blk.testBit j
      · rw [c3 j hj hjb]
        exact wR t ht j ((hRb j).mpr ⟨hj, hjb⟩) hrj
      · by_cases hlj : l = j
        · subst hlj
          have := cnt_mono (σ := mixp σB σR st e l) (j := l) (show e ≤ t by omega)
          omega
        · exact c2 j hjb hlj t (by omega)
  · intro j hj
    cases hjb : blk.testBit j
    · rw [c3 j hj hjb]
      exact cR j ((hRb j).mpr ⟨hj, hjb⟩)
    · by_cases hlj : l = j
      · subst hlj
        have := cnt_mono (σ := mixp σB σR st e l) (j := l) hT
        omega
      · exact c2 j hjb hlj T2 hT
end COMP
end
section
/-! ===== ready times ===== -/
/-- an order of the jobs g along the links -/
def Acy (g : Nat) (fol : Nat → Nat) (rk : Nat → Nat) : Prop := (∀ j, j < 5 → rk j < 5) ∧ ∀ i j, g.testBit i = true → g.testBit j = true → (fol i).testBit j = true → rk i < rk j
/-- ready times: the earliest that releases and links leave open -/
def RdOK (g : Nat) (rel len : Nat → Nat) (E : Nat → Nat → Prop) (rd : Nat → Nat) : Prop := (∀ j, j < 5 → rd j ≤ 30) ∧ (∀ j, g.testBit j = true → rel j ≤ rd j) ∧ (∀ i j, g.testBit i = true → g.testBit j = true → E i j → rd i + len i ≤ rd j) ∧ ∀ j, g.testBit j = true → rd j = rel j ∨ ∃ i, g.testBit i = true ∧ E i j ∧ rd j = rd i + len i
def mx (f : Nat → Nat) : Nat → Nat
  | 0 => 0
  | n + 1 => max (mx f n) (f n)
theorem mx_ge {f : Nat → Nat} : ∀ {n i : Nat}, i < n → f i ≤ mx f n := by
  intro n
  induction n with
  | zero => intro i h; omega
  | succ n ih =>
    intro i h
    rcases lt_succ_cases h with q | rfl
    · exact Nat.le_trans (ih q) (Nat.le_max_left _ _)
    · exact Nat.le_max_right _ _
theorem mx_get {f : Nat → Nat} : ∀ {n : Nat}, mx f n = 0 ∨ ∃ i, i < n ∧ mx f n = f i := by
  intro n
  induction n with
  | zero => exact Or.inl rfl
  | succ n ih =>
    by_cases h : mx f n ≤ f n
    · exact Or.inr ⟨n, by omega, Nat.max_eq_right h⟩
    · have e : mx f (n + 1) = mx f n := Nat.max_eq_left (by omega)
      rcases ih with h1 | ⟨i, h1, h2⟩
      · exact Or.inl (by rw [e, h1])
      · exact Or.inr ⟨i, by omega, by rw [e, h2]⟩
theorem mx_congr {f f' : Nat → Nat} : ∀ {n : Nat}, (∀ i, i < n → f i = f' i) → mx f n = mx f' n := by
  intro n
  induction n with
  | zero => intro _; rfl
  | succ n ih =>
    intro h
    show max _ _ = max _ _
    rw [ih (fun i hi => h i (by omega)), h n (by omega)]
def Lf (g : Nat) (rel len fol : Nat → Nat) : Nat → Nat → Nat
  | 0, j => rel j
  | n + 1, j => max (rel j) (mx (fun i => if g.testBit i = true ∧ (fol i).testBit j = true then Lf g rel len fol n i + len i else 0) 5)
theorem Lf_st {g : Nat} {rel len fol rk : Nat → Nat} (hA : Acy g fol rk) : ∀ n j, g.testBit j = true → rk j ≤ n → Lf g rel len fol (n + 1) j = Lf g rel len fol n j := by
  intro n
  induction n with
  | zero =>
    intro j hj hr
    show max _ _ = rel j
    have : mx (fun i => if g.testBit i = true ∧ (fol i).testBit j = true then Lf g rel len fol 0 i + len i else 0) 5 = 0 := by
      rcases mx_get (f := fun i => if g.testBit i = true ∧ (fol i).testBit j = true then Lf g rel len fol 0 i + len i else 0) (n := 5) with h | ⟨i, h1, h2⟩
      · exact h
      · rw [h2]
        refine if_neg fun z => ?_
        have := hA.2 i j z.1 hj z.2
        omega
    rw [this]
    omega
  | succ n ih =>
    intro j hj hr
    show max _ _ = max _ _
    congr 1
    refine mx_congr fun i hi => ?_
    by_cases hc : g.testBit i = true ∧ (fol i).testBit j = true
    · rw [if_pos hc, if_pos hc, ih i hc.1 (by have := hA.2 i j hc.1 hj hc.2; omega)]
    · rw [if_neg hc, if_neg hc]
theorem Lf_bd {g : Nat} {rel len fol rk : Nat → Nat} (hA : Acy g fol rk) (hg : g < 32) (hr : ∀ j, j < 5 → rel j ≤ 18) (hl : ∀ j, j < 5 → len j ≤ 3) : ∀ n j, g.testBit j = true → Lf g rel len fol n j ≤ 18 + 3 * rk j := by
  intro n
  induction n with
  | zero => intro j hj; have := hr j (lt5_of hg hj); show rel j ≤ _; omega
  | succ n ih =>
    intro j hj
    have h0 := hr j (lt5_of hg hj)
    show max _ _ ≤ _
    refine Nat.max_le.mpr ⟨by omega, ?_⟩
    rcases mx_get (f := fun i => if g.testBit i = true ∧ (fol i).testBit j = true then Lf g rel len fol n i + len i else 0) (n := 5) with h | ⟨i, h1, h2⟩
    · rw [h]; omega
    · rw [h2]
      by_cases hc : g.testBit i = true ∧ (fol i).testBit j = true
      · have a1 := ih i hc.1
        have a2 := hA.2 i j hc.1 hj hc.2
        have a3 := hl i h1
        show (if _ then _ else _) ≤ _
        rw [if_pos hc]
        omega
      · show (if _ then _ else _) ≤ _
        rw [if_neg hc]
        omega
/-- what the rounds aim at -/
def LL (g : Nat) (rel len fol : Nat → Nat) : Nat → Nat := Lf g rel len fol 4
theorem LL_eq {g : Nat} {rel len fol rk : Nat → Nat} (hA : Acy g fol rk) (hg : g < 32) {j : Nat} (hj : g.testBit j = true) : LL g rel len fol j = max (rel j) (mx (fun i => if g.testBit i = true ∧ (fol i).testBit j = true then LL g rel len fol i + len i else 0) 5) := by
  have := hA.1 j (lt5_of hg hj)
  exact (Lf_st hA 4 j hj (by omega)).symm
theorem LL_rel {g : Nat} {rel len fol rk : Nat → Nat} (hA : Acy g fol rk) (hg : g < 32) {j : Nat} (hj : g.testBit j = true) : rel j ≤ LL g rel len fol j := by
  rw [LL_eq hA hg hj]; exact Nat.le_max_left _ _
theorem LL_edge {g : Nat} {rel len fol rk : Nat → Nat} (hA : Acy g fol rk) (hg : g < 32) {i j : Nat} (hi : g.testBit i = true) (hj : g.testBit j = true) (he : (fol i).testBit j = true) : LL g rel len fol i + len i ≤ LL g rel len fol j := by
  have := mx_ge (f := fun i => if g.testBit i = true ∧ (fol i).testBit j = true then LL g rel len fol i + len i else 0) (lt5_of hg hi)
  have e : (if g.testBit i = true ∧ (fol i).testBit j = true then LL g rel len fol i + len i else 0) = LL g rel len fol i + len i := if_pos ⟨hi, he⟩
  rw [e] at this
  rw [LL_eq hA hg hj]
  exact Nat.le_trans this (Nat.le_max_right _ _)
theorem LL_tight {g : Nat} {rel len fol rk : Nat → Nat} (hA : Acy g fol rk) (hg : g < 32) {j : Nat} (hj : g.testBit j = true) : LL g rel len fol j = rel j ∨ ∃ i, g.testBit i = true ∧ (fol i).testBit j = true ∧ LL g rel len fol j = LL g rel len fol i + len i := by
  by_cases h : LL g rel len fol j = rel j
  · exact Or.inl h
  · refine Or.inr ?_
    have e := LL_eq (rel := rel) (len := len) hA hg hj
    rcases mx_get (f := fun i => if g.testBit i = true ∧ (fol i).testBit j = true then LL g rel len fol i + len i else 0) (n := 5) with h0 | ⟨i, h1, h2⟩
    · rw [h0] at e; omega
    · rw [h2] at e
      by_cases hc : g.testBit i = true ∧ (fol i).testBit j = true
      · refine ⟨i, hc.1, hc.2, ?_⟩
        have e2 : (if g.testBit i = true ∧ (fol i).testBit j = true then LL g rel len fol i + len i else 0) = LL g rel len fol i + len i := if_pos hc
        have e3 : LL g rel len fol j = max (rel j) (LL g rel len fol i + len i) := by rw [e]; exact congrArg (max (rel j)) e2
        omega
      · have e2 : (if g.testBit i = true ∧ (fol i).testBit j = true then LL g rel len fol i + len i else 0) = 0 := if_neg hc
        have e3 : LL g rel len fol j = max (rel j) 0 := by rw [e]; exact congrArg (max (rel j)) e2
        omega
/-- behind r rounds and k jobs of the next one -/
def SR (g : Nat) (rel len fol rk : Nat → Nat) (r k : Nat) (rd : Nat → Nat) : Prop := (∀ q, g.testBit q = true → rel q ≤ rd q ∧ rd q ≤ LL g rel len fol q) ∧ (∀ q, q < 5 → g.testBit q = false → rd q = rel q) ∧ (∀ q, g.testBit q = true → rk q ≤ r → LL g rel len fol q ≤ rd q) ∧ ∀ q, g.testBit q = true → rk q ≤ r + 1 → ∀ i, i < k → g.testBit i = true → (fol i).testBit q = true → LL g rel len fol i + len i ≤ rd q
theorem SR_0 {g : Nat} {rel len fol rk rd : Nat → Nat} (hA : Acy g fol rk) (hg : g < 32) (h : ∀ q, q < 5 → rd q = rel q) : SR g rel len fol rk 0 0 rd := by
  refine ⟨fun q hq => ?_, fun q hq _ => h q hq, fun q hq hr => ?_, fun q _ _ i hi => by omega⟩
  · rw [h q (lt5_of hg hq)]
    exact ⟨Nat.le_refl _, LL_rel hA hg hq⟩
  · rw [h q (lt5_of hg hq)]
    rcases LL_tight (rel := rel) (len := len) hA hg hq with h1 | ⟨i, h1, h2, h3⟩
    · omega
    · have := hA.2 i q h1 hq h2
      omega
theorem SR_skip {g : Nat} {rel len fol rk rd : Nat → Nat} {r k : Nat} (h : SR g rel len fol rk r k rd) (hk : g.testBit k = false) : SR g rel len fol rk r (k + 1) rd := by
  refine ⟨h.1, h.2.1, h.2.2.1, fun q hq hr i hi hgi he => ?_⟩
  rcases lt_succ_cases hi with a | rfl
  · exact h.2.2.2 q hq hr i a hgi he
  · rw [hk] at hgi; cases hgi
theorem SR_push {g : Nat} {rel len fol rk rd rd' : Nat → Nat} {r k : Nat} (hA : Acy g fol rk) (hg : g < 32) (h : SR g rel len fol rk r k rd) (hk : g.testBit k = true) (hp : pfP rd (fol k &&& g) (rd k + len k) 5 rd') : SR g rel len fol rk r (k + 1) rd' := by
  have hup : ∀ q, rd q ≤ rd' q := by
    intro q
    rw [hp q]
    split <;> omega
  have hb : ∀ q, (fol k &&& g).testBit q = true ↔ (fol k).testBit q = true ∧ g.testBit q = true := by
    intro q
    rw [Nat.testBit_and]
    simp
  refine ⟨fun q hq => ⟨Nat.le_trans (h.1 q hq).1 (hup q), ?_⟩, fun q hq hn => ?_, fun q hq hr => Nat.le_trans (h.2.2.1 q hq hr) (hup q), fun q hq hr i hi hgi he => ?_⟩
  · rw [hp q]
    by_cases hc : q < 5 ∧ (fol k &&& g).testBit q = true ∧ rd q < rd k + len k
    · rw [if_pos hc]
      have a1 := LL_edge (rel := rel) (len := len) hA hg hk hq ((hb q).mp hc.2.1).1
      have a2 := (h.1 k hk).2
      omega
    · rw [if_neg hc]; exact (h.1 q hq).2
  · rw [hp q, if_neg, h.2.1 q hq hn]
    rintro ⟨-, z, -⟩
    have := ((hb q).mp z).2
    rw [hn] at this; cases this
  · rcases lt_succ_cases hi with a | rfl
    · exact Nat.le_trans (h.2.2.2 q hq hr i a hgi he) (hup q)
    · have a1 := hA.2 i q hgi hq he
      have a2 := h.2.2.1 i hgi (by omega)
      rw [hp q]
      by_cases hd : rd q < rd i + len i
      · rw [if_pos ⟨lt5_of hg hq, (hb q).mpr ⟨he, hq⟩, hd⟩]; omega
      · rw [if_neg (fun z => hd z.2.2)]; omega
theorem SR_round {g : Nat} {rel len fol rk rd : Nat → Nat} {r : Nat} (hA : Acy g fol rk) (hg : g < 32) (h : SR g rel len fol rk r 5 rd) : SR g rel len fol rk (r + 1) 0 rd := by
  refine ⟨h.1, h.2.1, fun q hq hr => ?_, fun q _ _ i hi => by omega⟩
  rcases LL_tight (rel := rel) (len := len) hA hg hq with h1 | ⟨i, h1, h2, h3⟩
  · have := (h.1 q hq).1
    omega
  · have := h.2.2.2 q hq hr i (lt5_of hg h1) h1 h2
    omega
theorem SR_bd {g : Nat} {rel len fol rk rd : Nat → Nat} {r k : Nat} (hA : Acy g fol rk) (hg : g < 32) (hr : ∀ j, j < 5 → rel j ≤ 18) (hl : ∀ j, j < 5 → len j ≤ 3) (h : SR g rel len fol rk r k rd) : ∀ q, q < 5 → rd q ≤ 30 := by
  intro q hq
  cases hb : g.testBit q
  · rw [h.2.1 q hq hb]; have := hr q hq; omega
  · have a1 := (h.1 q hb).2
    have a2 := Lf_bd hA hg hr hl 4 q hb
    have a3 := hA.1 q hq
    have a4 : LL g rel len fol q = Lf g rel len fol 4 q := rfl
    omega
theorem SR_end {g : Nat} {rel len fol rk rd : Nat → Nat} (hA : Acy g fol rk) (hg : g < 32) (hr : ∀ j, j < 5 → rel j ≤ 18) (hl : ∀ j, j < 5 → len j ≤ 3) (h : SR g rel len fol rk 5 0 rd) : RdOK g rel len (fun i j => (fol i).testBit j = true) rd := by
  have e : ∀ q, g.testBit q = true → rd q = LL g rel len fol q := by
    intro q hq
    have a3 := hA.1 q (lt5_of hg hq)
    exact Nat.le_antisymm (h.1 q hq).2 (h.2.2.1 q hq (by omega))
  refine ⟨SR_bd hA hg hr hl h, fun j hj => (h.1 j hj).1, fun i j hi hj he => ?_, fun j hj => ?_⟩
  · rw [e i hi, e j hj]; exact LL_edge hA hg hi hj he
  · rcases LL_tight (rel := rel) (len := len) hA hg hj with h1 | ⟨i, h1, h2, h3⟩
    · exact Or.inl (by rw [e j hj]; exact h1)
    · exact Or.inr ⟨i, h1, h2, by rw [e j hj, e i h1]; exact h3⟩
section READY
variable {g : Nat} {rel rd len : Nat → Nat} {E ok : Nat → Nat → Prop} {σ : Nat → Nat}
/-- no plan gives a unit to a job that isn't ready -/
theorem val_rd (hg : g < 32) (hR : RdOK g rel len E rd) (hlen : ∀ j, g.testBit j = true → 1 ≤ len j) (h : Val g rel len E ok σ) : ∀ t, σ t < 5 → rd (σ t) ≤ t := by
  have key : ∀ n j, rd j ≤ n → g.testBit j = true → ∀ t, σ t = j → rd j ≤ t := by
    intro n
    induction n with
    | zero => intro j hj _ t _; omega
    | succ n ih =>
      intro j hj hgj t ht
      have h5 := lt5_of hg hgj
      obtain ⟨v1, v2, v3, v4, v5⟩ := h t (by omega)
      rw [ht] at v3 v5
      rcases hR.2.2.2 j hgj with a | ⟨i, a1, a2, a3⟩
      · omega
      · have b1 := v5 i a1 a2
        have b2 := hlen i a1
        have b3 : ∀ T, cnt σ i T ≤ T - rd i := by
          intro T
          induction T with
          | zero => exact Nat.zero_le _
          | succ m ihm =>
            by_cases hc : σ m = i
            · have := ih i (by omega) a1 m hc
              rw [cnt_hit hc]
              omega
            · rw [cnt_miss hc]; omega
        have b4 := b3 t
        omega
  exact fun t ht => key _ _ (Nat.le_refl _) (h t ht).1 t rfl
/-- a plan without needless idle units ends by 33 -/
theorem good_hor (hg : g < 32) (hR : RdOK g rel len E rd) (hlen : ∀ j, g.testBit j = true → 1 ≤ len j) (hr : ∀ j, j < 5 → rel j ≤ 18) (hl : ∀ j, j < 5 → len j ≤ 3) (h : Val g rd len E ok σ) (hw : Wc g rd len σ) : ∀ j, g.testBit j = true → len j ≤ cnt σ j 33 := by
  have hb := fun t => val_bit h hg (t := t)
  have hsm := sm_bd (g := g) (f := len) (c := 3) hl
  refine fun j hj => Classical.byContradiction fun hc => ?_
  have hlack : cB σ g 33 + 1 ≤ sm g len := by
    have a1 := sm_split (b := g) (f := len) hg hj
    have a2 := sm_split (b := g) (f := fun j => cnt σ j 33) hg hj
    have a3 : sm (dif g (2 ^ j)) (fun j => cnt σ j 33) ≤ sm (dif g (2 ^ j)) len := sm_le fun i hi _ => val_le h hi 33
    unfold cB
    omega
  rcases last_or (fun t => ¬ σ t < 5) 0 33 (by omega) with hn | ⟨t0, t1, t2, t3, t4⟩
  · have := cB_busy (σ := σ) hg (Nat.zero_le 33) (fun u a1 a2 => (hb u).mpr (Classical.byContradiction fun z => hn u a1 a2 z))
    omega
  · have a1 := cB_busy (σ := σ) hg (a := t0 + 1) (b := 33) (by omega) (fun u b1 b2 => (hb u).mpr (Classical.byContradiction fun z => t4 u (by omega) b2 z))
    have key : ∀ n j, rd j ≤ n → g.testBit j = true → t0 < rd j → ∃ j1, g.testBit j1 = true ∧ t0 < rd j1 ∧ rd j1 = rel j1 := by
      intro n
      induction n with
      | zero => intro j hj _ h0; omega
      | succ n ih =>
        intro j hj hgj h0
        rcases hR.2.2.2 j hgj with a | ⟨i, b1, b2, b3⟩
        · exact ⟨j, hgj, h0, a⟩
        · by_cases hi : t0 < rd i
          · have := hlen i b1
            exact ih i (by omega) b1 hi
          · have c1 := hw t0 t3 i b1 (by omega)
            have c2 := val_sub h (lt5_of hg b1) t0
            have := hlen i b1
            omega
    have hj0 : t0 < rd j := by
      refine Classical.byContradiction fun z => hc ?_
      exact Nat.le_trans (hw t0 t3 j hj (by omega)) (cnt_mono (by omega))
    obtain ⟨j1, c1, c2, c3⟩ := key _ j (Nat.le_refl _) hj hj0
    have c4 := hr j1 (lt5_of hg c1)
    omega
theorem good_feas {T : Nat} (hg : g < 32) (hR : RdOK g rel len E rd) (hlen : ∀ j, g.testBit j = true → 1 ≤ len j) (hr : ∀ j, j < 5 → rel j ≤ 18) (hl : ∀ j, j < 5 → len j ≤ 3) (h : Good g rd len E ok T) : Feas g rel len E ok := by
  obtain ⟨σ, v, w, -⟩ := h
  refine ⟨σ, fun t ht => ?_, fun j hj => Nat.le_trans (good_hor hg hR hlen hr hl v w j hj) (cnt_mono (by omega))⟩
  obtain ⟨v1, v2, v3, v4, v5⟩ := v t ht
  exact ⟨v1, v2, Nat.le_trans (hR.2.1 _ v1) v3, v4, v5⟩
end READY
/-- in a part of an ordered set one job has no follower -/
theorem top_ex {g b : Nat} {fol rk : Nat → Nat} (hA : Acy g fol rk) (hg : g < 32) (hb : ∀ j, b.testBit j = true → g.testBit j = true) (hb32 : b < 32) (hb0 : b ≠ 0) : ∃ j, b.testBit j = true ∧ ∀ k, b.testBit k = true → (fol j).testBit k = false := by
  have key : ∀ n j, 5 - rk j ≤ n → b.testBit j = true → ∃ j, b.testBit j = true ∧ ∀ k, b.testBit k = true → (fol j).testBit k = false := by
    intro n
    induction n with
    | zero => intro j hj hbj; have := hA.1 j (lt5_of hb32 hbj); omega
    | succ n ih =>
      intro j hj hbj
      by_cases h : ∃ k, b.testBit k = true ∧ (fol j).testBit k = true
      · obtain ⟨k, h1, h2⟩ := h
        have a1 := hA.2 j k (hb j hbj) (hb k h1) h2
        have a2 := hA.1 k (lt5_of hb32 h1)
        exact ih k (by omega) h1
      · refine ⟨j, hbj, fun k hk => ?_⟩
        cases hf : (fol j).testBit k
        · rfl
        · exact absurd ⟨k, hk, hf⟩ h
  obtain ⟨j, h1, h2⟩ := bit_ne hb32 hb0
  exact key _ j (Nat.le_refl _) h2
end
section
/-! ===== the cheapest last job; reachability; free numbers ===== -/
def cand (fol : Nat → Nat) (blk j : Nat) : Prop := blk.testBit j = true ∧ fol j &&& blk = 0
theorem cand_iff {fol : Nat → Nat} {blk j : Nat} (hb : blk < 32) : cand fol blk j ↔ blk.testBit j = true ∧ ∀ k, blk.testBit k = true → (fol j).testBit k = false := by
  refine ⟨fun h => ⟨h.1, fun k hk => ?_⟩, fun h => ⟨h.1, ?_⟩⟩
  · have := congrArg (fun x => Nat.testBit x k) h.2
    simp only [Nat.testBit_and, Nat.zero_testBit, hk] at this
    simpa using this
  · refine bit_ext (and_lt32 hb) (by omega) fun i hi => ?_
    rw [Nat.testBit_and, Nat.zero_testBit]
    cases hc : blk.testBit i
    · simp
    · rw [h.2 i hc]; rfl
def CLP (co : Nat → Int) (fol : Nat → Nat) (blk i best : Nat) (least : Int) : Prop := best < 5 ∧ ((least = 100001 ∧ ∀ j, j < i → ¬ cand fol blk j) ∨ (least = co best ∧ cand fol blk best ∧ ∀ j, j < i → cand fol blk j → co best ≤ co j))
theorem CLP_0 (co : Nat → Int) (fol : Nat → Nat) (blk : Nat) : CLP co fol blk 0 0 100001 := ⟨by omega, Or.inl ⟨rfl, fun j h => by omega⟩⟩
theorem CLP_skip {co : Nat → Int} {fol : Nat → Nat} {blk i best : Nat} {least : Int} (h : CLP co fol blk i best least) (hn : ¬ cand fol blk i ∨ least ≤ co i) (hco : ∀ j, j < 5 → co j ≤ 100000) (hi : i < 5) : CLP co fol blk (i + 1) best least := by
  refine ⟨h.1, ?_⟩
  rcases h.2 with ⟨h1, h2⟩ | ⟨h1, h2, h3⟩
  · refine Or.inl ⟨h1, fun j hj => ?_⟩
    rcases lt_succ_cases hj with q | rfl
    · exact h2 j q
    · rcases hn with hn | hn
      · exact hn
      · have := hco j hi
        omega
  · refine Or.inr ⟨h1, h2, fun j hj hc => ?_⟩
    rcases lt_succ_cases hj with q | rfl
    · exact h3 j q hc
    · rcases hn with hn | hn
      · exact absurd hc hn
      · omega
theorem CLP_set {co : Nat → Int} {fol : Nat → Nat} {blk i best : Nat} {least : Int} (h : CLP co fol blk i best least) (hc : cand fol blk i) (hl : co i < least) (hi : i < 5) : CLP co fol blk (i + 1) i (co i) := by
  refine ⟨hi, Or.inr ⟨rfl, hc, fun j hj hcj => ?_⟩⟩
  rcases lt_succ_cases hj with q | rfl
  · rcases h.2 with ⟨h1, h2⟩ | ⟨h1, h2, h3⟩
    · exact absurd hcj (h2 j q)
    · have := h3 j q hcj
      omega
  · omega
theorem CLP_bd {co : Nat → Int} {fol : Nat → Nat} {blk i best : Nat} {least : Int} (h : CLP co fol blk i best least) (hco : ∀ j, j < 5 → -150 ≤ co j ∧ co j ≤ 100000) : -150 ≤ least ∧ least ≤ 100001 := by
  have := hco best h.1
  rcases h.2 with ⟨h1, h2⟩ | ⟨h1, h2, h3⟩ <;> omega
theorem CLP_end {co : Nat → Int} {fol : Nat → Nat} {blk best : Nat} {least : Int} (hb : blk < 32) (h : CLP co fol blk 5 best least) (hex : ∃ j, cand fol blk j) : cand fol blk best ∧ ∀ j, cand fol blk j → co best ≤ co j := by
  rcases h.2 with ⟨h1, h2⟩ | ⟨h1, h2, h3⟩
  · obtain ⟨j, hj⟩ := hex
    exact absurd hj (h2 j (lt5_of hb hj.1))
  · exact ⟨h2, fun j hj => h3 j (lt5_of hb hj.1) hj⟩
/-- v can be reached from j in n steps; in some number of steps -/
def Rn (E : Nat → Nat → Prop) (j : Nat) : Nat → Nat → Prop
  | 0, v => v = j
  | n + 1, v => ∃ u, u < 5 ∧ Rn E j n u ∧ E u v
def Rc (E : Nat → Nat → Prop) (j v : Nat) : Prop := ∃ n, Rn E j n v
theorem Rc_step {E : Nat → Nat → Prop} {j u v : Nat} (h : Rc E j u) (hu : u < 5) (he : E u v) : Rc E j v := by
  obtain ⟨n, h⟩ := h
  exact ⟨n + 1, u, hu, h, he⟩
/-- behind r rounds and k jobs of the next -/
def REP (E : Nat → Nat → Prop) (j r k s : Nat) : Prop := s < 32 ∧ (∀ v, s.testBit v = true → Rc E j v) ∧ (∀ n v, n ≤ r → v < 5 → Rn E j n v → s.testBit v = true) ∧ ∀ n v i, n ≤ r → i < k → v < 5 → Rn E j n i → E i v → s.testBit v = true
theorem REP_0 {E : Nat → Nat → Prop} {j : Nat} (hj : j < 5) : REP E j 0 0 (2 ^ j) := by
  refine ⟨pow_lt hj, fun v hv => ⟨0, ?_⟩, fun n v hn hv h => ?_, fun n v i _ hi => by omega⟩
  · rw [one_bit] at hv
    have : j = v := by simpa using hv
    exact this.symm
  · have : n = 0 := by omega
    subst this
    have : v = j := h
    rw [one_bit, this]
    simp
theorem REP_skip {E : Nat → Nat → Prop} {j r k s : Nat} (h : REP E j r k s) (hk : k < 5) (hb : s.testBit k = false) : REP E j r (k + 1) s := by
  refine ⟨h.1, h.2.1, h.2.2.1, fun n v i hn hi hv hR hE => ?_⟩
  rcases lt_succ_cases hi with q | rfl
  · exact h.2.2.2 n v i hn q hv hR hE
  · have := h.2.2.1 n i hn hk hR
    rw [hb] at this; cases this
theorem REP_or {E : Nat → Nat → Prop} {j r k s f : Nat} (h : REP E j r k s) (hk : k < 5) (hb : s.testBit k = true) (hf : f < 32) (hE : ∀ v, f.testBit v = true ↔ E k v) : REP E j r (k + 1) (s ||| f) := by
  have hs : ∀ v, s.testBit v = true → (s ||| f).testBit v = true := fun v hv => by rw [Nat.testBit_or, hv]; rfl
  refine ⟨or_lt h.1 hf, fun v hv => ?_, fun n v hn hv hR => hs v (h.2.2.1 n v hn hv hR), fun n v i hn hi hv hR he => ?_⟩
  · rw [Nat.testBit_or] at hv
    cases hc : s.testBit v
    · rw [hc] at hv
      exact Rc_step (h.2.1 k hb) hk ((hE v).mp (by simpa using hv))
    · exact h.2.1 v hc
  · rcases lt_succ_cases hi with q | rfl
    · exact hs v (h.2.2.2 n v i hn q hv hR he)
    · rw [Nat.testBit_or, (hE v).mpr he]
      simp
theorem REP_round {E : Nat → Nat → Prop} {j r s : Nat} (h : REP E j r 5 s) : REP E j (r + 1) 0 s := by
  refine ⟨h.1, h.2.1, fun n v hn hv hR => ?_, fun n v i _ hi => by omega⟩
  by_cases hc : n ≤ r
  · exact h.2.2.1 n v hc hv hR
  · have : n = r + 1 := by omega
    subst this
    obtain ⟨u, hu, h1, h2⟩ := hR
    exact h.2.2.2 r v u (Nat.le_refl _) hu hv h1 h2
theorem Rn_rk {E : Nat → Nat → Prop} {rk : Nat → Nat} (hE : ∀ i j, E i j → rk i < rk j) {j : Nat} : ∀ n v, Rn E j n v → rk j + n ≤ rk v := by
  intro n
  induction n with
  | zero => intro v h; have : v = j := h
            subst this; omega
  | succ n ih =>
    intro v h
    obtain ⟨u, _, h1, h2⟩ := h
    have := ih u h1
    have := hE u v h2
    omega
theorem REP_end {E : Nat → Nat → Prop} {rk : Nat → Nat} (hE : ∀ i j, E i j → rk i < rk j) (hrk : ∀ j, j < 5 → rk j < 5) {j s : Nat} (h : REP E j 5 0 s) : ∀ v, v < 5 → (s.testBit v = true ↔ Rc E j v) := by
  intro v hv
  refine ⟨fun q => h.2.1 v q, fun q => ?_⟩
  obtain ⟨n, hn⟩ := q
  have a1 := Rn_rk hE n v hn
  have a2 := hrk v hv
  exact h.2.2.1 n v (by omega) hv hn
/-- the links among the jobs held, as X has them -/
def EX (pr : Nat) (fol : Nat → Nat) (u v : Nat) : Prop := pr.testBit u = true ∧ pr.testBit v = true ∧ (fol u).testBit v = true
theorem Rn_in {pr : Nat} {fol : Nat → Nat} {j : Nat} (hj : pr.testBit j = true) : ∀ n v, Rn (EX pr fol) j n v → pr.testBit v = true := by
  intro n
  cases n with
  | zero => intro v h; have : v = j := h
            rw [this]; exact hj
  | succ n => intro v h
              obtain ⟨u, _, _, h2⟩ := h
              exact h2.2.1
end
section
theorem d_X_cheapestLast_0 : decode b_X_cheapestLast 0 = .ok (.iconst 0, 1) := by decide +kernel
theorem d_X_cheapestLast_1 : decode b_X_cheapestLast 1 = .ok (.istore_n 3, 1) := by decide +kernel
theorem d_X_cheapestLast_2 : decode b_X_cheapestLast 2 = .ok (.ldc 116, 2) := by decide +kernel
theorem d_X_cheapestLast_4 : decode b_X_cheapestLast 4 = .ok (.istore 4, 2) := by decide +kernel
theorem d_X_cheapestLast_6 : decode b_X_cheapestLast 6 = .ok (.iconst 0, 1) := by decide +kernel
theorem d_X_cheapestLast_7 : decode b_X_cheapestLast 7 = .ok (.istore 5, 2) := by decide +kernel
theorem d_X_cheapestLast_9 : decode b_X_cheapestLast 9 = .ok (.iload 5, 2) := by decide +kernel
theorem d_X_cheapestLast_11 : decode b_X_cheapestLast 11 = .ok (.iconst 5, 1) := by decide +kernel
theorem d_X_cheapestLast_12 : decode b_X_cheapestLast 12 = .ok (.if_icmp .ge 65, 3) := by decide +kernel
theorem d_X_cheapestLast_15 : decode b_X_cheapestLast 15 = .ok (.iload_n 1, 1) := by decide +kernel
theorem d_X_cheapestLast_16 : decode b_X_cheapestLast 16 = .ok (.iload 5, 2) := by decide +kernel
theorem d_X_cheapestLast_18 : decode b_X_cheapestLast 18 = .ok (.ishr, 1) := by decide +kernel
theorem d_X_cheapestLast_19 : decode b_X_cheapestLast 19 = .ok (.iconst 1, 1) := by decide +kernel
theorem d_X_cheapestLast_20 : decode b_X_cheapestLast 20 = .ok (.iand, 1) := by decide +kernel
theorem d_X_cheapestLast_21 : decode b_X_cheapestLast 21 = .ok (.ifCond .eq 7, 3) := by decide +kernel
theorem d_X_cheapestLast_24 : decode b_X_cheapestLast 24 = .ok (.iconst 1, 1) := by decide +kernel
theorem d_X_cheapestLast_25 : decode b_X_cheapestLast 25 = .ok (.goto 4, 3) := by decide +kernel
theorem d_X_cheapestLast_28 : decode b_X_cheapestLast 28 = .ok (.iconst 0, 1) := by decide +kernel
theorem d_X_cheapestLast_29 : decode b_X_cheapestLast 29 = .ok (.istore 6, 2) := by decide +kernel
theorem d_X_cheapestLast_31 : decode b_X_cheapestLast 31 = .ok (.iload 6, 2) := by decide +kernel
theorem d_X_cheapestLast_33 : decode b_X_cheapestLast 33 = .ok (.ifCond .eq 38, 3) := by decide +kernel
theorem d_X_cheapestLast_36 : decode b_X_cheapestLast 36 = .ok (.aload_n 0, 1) := by decide +kernel
theorem d_X_cheapestLast_37 : decode b_X_cheapestLast 37 = .ok (.getfield 25, 3) := by decide +kernel
theorem d_X_cheapestLast_40 : decode b_X_cheapestLast 40 = .ok (.iload 5, 2) := by decide +kernel
theorem d_X_cheapestLast_42 : decode b_X_cheapestLast 42 = .ok (.baload, 1) := by decide +kernel
theorem d_X_cheapestLast_43 : decode b_X_cheapestLast 43 = .ok (.iload_n 1, 1) := by decide +kernel
theorem d_X_cheapestLast_44 : decode b_X_cheapestLast 44 = .ok (.iand, 1) := by decide +kernel
theorem d_X_cheapestLast_45 : decode b_X_cheapestLast 45 = .ok (.ifCond .ne 26, 3) := by decide +kernel
theorem d_X_cheapestLast_48 : decode b_X_cheapestLast 48 = .ok (.aload_n 0, 1) := by decide +kernel
theorem d_X_cheapestLast_49 : decode b_X_cheapestLast 49 = .ok (.iload 5, 2) := by decide +kernel
theorem d_X_cheapestLast_51 : decode b_X_cheapestLast 51 = .ok (.iload_n 2, 1) := by decide +kernel
theorem d_X_cheapestLast_52 : decode b_X_cheapestLast 52 = .ok (.invokevirtual 106, 3) := by decide +kernel
theorem d_X_cheapestLast_55 : decode b_X_cheapestLast 55 = .ok (.istore 7, 2) := by decide +kernel
theorem d_X_cheapestLast_57 : decode b_X_cheapestLast 57 = .ok (.iload 7, 2) := by decide +kernel
theorem d_X_cheapestLast_59 : decode b_X_cheapestLast 59 = .ok (.iload 4, 2) := by decide +kernel
theorem d_X_cheapestLast_61 : decode b_X_cheapestLast 61 = .ok (.if_icmp .ge 10, 3) := by decide +kernel
theorem d_X_cheapestLast_64 : decode b_X_cheapestLast 64 = .ok (.iload 7, 2) := by decide +kernel
theorem d_X_cheapestLast_66 : decode b_X_cheapestLast 66 = .ok (.istore 4, 2) := by decide +kernel
theorem d_X_cheapestLast_68 : decode b_X_cheapestLast 68 = .ok (.iload 5, 2) := by decide +kernel
theorem d_X_cheapestLast_70 : decode b_X_cheapestLast 70 = .ok (.istore_n 3, 1) := by decide +kernel
theorem d_X_cheapestLast_71 : decode b_X_cheapestLast 71 = .ok (.iinc 5 1, 3) := by decide +kernel
theorem d_X_cheapestLast_74 : decode b_X_cheapestLast 74 = .ok (.goto (-65), 3) := by decide +kernel
theorem d_X_cheapestLast_77 : decode b_X_cheapestLast 77 = .ok (.iload_n 3, 1) := by decide +kernel
theorem d_X_cheapestLast_78 : decode b_X_cheapestLast 78 = .ok (.ireturn, 1) := by decide +kernel
set_option maxHeartbeats 4000000 in
set_option maxRecDepth 100000 in
theorem lp_X_cheapestLast {l : Launch} {D : va_G} {h : Nat → Nat} {cs : Nat → ClassId} {cp : Nat} {cap : Int} {pr : Nat} {fo : Int} {fb pn be : Nat} {N : Nat → Nat → Nat} {K : Kc} (C : Kok D (tysX cs) K b_X_cheapestLast 8 R_X 2) (hN : okN N) (hfo : -1 ≤ fo ∧ fo < 5) (hfb : fb ≤ 60) {blk e : Nat} (hb : blk < 32) (he : e ≤ 60) (kk : ∀ best least, CLP (fun j => cnow N fo fb j e) (N 6) blk 5 best least → J l D K (wX h cs) (cp, cap, pr, fo, fb, pn, be, N) 77 [.ref (h 0), .int (nI blk), .int (nI e), .int (nI best)] []) : ∀ i, i ≤ 5 → ∀ best least, CLP (fun j => cnow N fo fb j e) (N 6) blk i best least → J l D K (wX h cs) (cp, cap, pr, fo, fb, pn, be, N) 9 [.ref (h 0), .int (nI blk), .int (nI e), .int (nI best), .int (iI least), .int (nI i)] [] := by
  refine up_ind 5 ?_
  intro i hi ih best least hF
  have hco : ∀ j, j < 5 → -150 ≤ cnow N fo fb j e ∧ cnow N fo fb j e ≤ 100000 := fun j hj => cnow_bd hN hj he
  have hco2 : ∀ j, j < 5 → (fun j => cnow N fo fb j e) j ≤ 100000 := fun j hj => (hco j hj).2
  have hlb := CLP_bd hF hco
  have hbest := hF.1
  have haf : N 6 i &&& blk < 32 := and_lt32 hb
  refine j_iload C d_X_cheapestLast_9 (x := nI i) rfl ?_
  refine j_iconst C d_X_cheapestLast_11 (v := nI 5) (by decide) ?_
  refine j_icmp_ge C d_X_cheapestLast_12 (tgt := 77) (by decide) (tI i (by omega)) (tI 5 (by decide)) (fun c_12 => ?_) (fun c_12 => ?_)
  · obtain rfl : i = 5 := by omega
    refine j_take 4 rfl ?_
    exact kk best least hF
  · refine j_iload_n C d_X_cheapestLast_15 (x := nI blk) rfl ?_
    refine j_iload C d_X_cheapestLast_16 (x := nI i) rfl ?_
    refine j_ishr C d_X_cheapestLast_18 (z := nI (blk / 2 ^ i)) (nI_shr (by omega) (by omega)) ?_
    refine j_iconst C d_X_cheapestLast_19 (v := nI 1) (by decide) ?_
    refine j_iand C d_X_cheapestLast_20 (z := nI (tb blk i)) (nI_bit (by omega)) ?_
    refine j_if_eq C d_X_cheapestLast_21 (tgt := 28) (by decide) (tI _ (tb_lt _ _)) (fun c_21 => ?_) (fun c_21 => ?_)
    · have b_21 : Nat.testBit blk i = false := tb_f c_21
      refine j_iconst C d_X_cheapestLast_28 (v := nI 0) (by decide) ?_
      refine j_istore C d_X_cheapestLast_29 (Nat.le_of_ble_eq_true rfl) (Nat.le_of_ble_eq_true rfl) (L' := [.ref (h 0), .int (nI blk), .int (nI e), .int (nI best), .int (iI least), .int (nI i), .int (nI 0)]) rfl ?_
      refine j_iload C d_X_cheapestLast_31 (x := nI 0) rfl ?_
      refine j_if_eq C d_X_cheapestLast_33 (tgt := 71) (by decide) (tI 0 (by decide)) (fun c_33 => ?_) (fun c_33 => ?_)
      · have hnew := CLP_skip hF (Or.inl (fun z => by have z1 := z.1; rw [b_21] at z1; cases z1)) hco2 (by omega)
        refine j_iinc C d_X_cheapestLast_71 (Nat.le_of_ble_eq_true rfl) (x := nI i) (v := nI (i + 1)) rfl (nI_add _ _) (L' := [.ref (h 0), .int (nI blk), .int (nI e), .int (nI best), .int (iI least), .int (nI (i + 1)), .int (nI 0)]) rfl ?_
        refine j_goto C d_X_cheapestLast_74 (tgt := 9) (by decide) ?_
        refine j_take 6 rfl ?_
        exact ih (by omega) _ _ hnew
      · exact absurd rfl c_33
    · have b_21 : Nat.testBit blk i = true := tb_t c_21
      refine j_iconst C d_X_cheapestLast_24 (v := nI 1) (by decide) ?_
      refine j_goto C d_X_cheapestLast_25 (tgt := 29) (by decide) ?_
      refine j_istore C d_X_cheapestLast_29 (Nat.le_of_ble_eq_true rfl) (Nat.le_of_ble_eq_true rfl) (L' := [.ref (h 0), .int (nI blk), .int (nI e), .int (nI best), .int (iI least), .int (nI i), .int (nI 1)]) rfl ?_
      refine j_iload C d_X_cheapestLast_31 (x := nI 1) rfl ?_
      refine j_if_eq C d_X_cheapestLast_33 (tgt := 71) (by decide) (tI 1 (by decide)) (fun c_33 => ?_) (fun c_33 => ?_)
      · exact absurd c_33 (by decide)
      · refine j_aload_n C d_X_cheapestLast_36 (a := h 0) rfl ?_
        refine x_get C 8 (v := .ref (h 6)) d_X_cheapestLast_37 (by decide) fl_X_8 rfl ?_
        refine j_iload C d_X_cheapestLast_40 (x := nI i) rfl ?_
        refine j_bald C 6 5 (f := fun ξ => nI ((N 6) ξ)) (i := i) (v := nI (N 6 i)) d_X_cheapestLast_42 rfl rfl (by omega) (by decide) rfl ?_
        refine j_iload_n C d_X_cheapestLast_43 (x := nI blk) rfl ?_
        refine j_iand C d_X_cheapestLast_44 (z := nI ((N 6 i) &&& blk)) (nI_and _ _) ?_
        refine j_if_ne C d_X_cheapestLast_45 (tgt := 71) (by decide) (tI ((N 6 i) &&& blk) (by omega)) (fun c_45 => ?_) (fun c_45 => ?_)
        · have hnew := CLP_skip hF (Or.inl (fun z => c_45 (by have := z.2; omega))) hco2 (by omega)
          refine j_iinc C d_X_cheapestLast_71 (Nat.le_of_ble_eq_true rfl) (x := nI i) (v := nI (i + 1)) rfl (nI_add _ _) (L' := [.ref (h 0), .int (nI blk), .int (nI e), .int (nI best), .int (iI least), .int (nI (i + 1)), .int (nI 1)]) rfl ?_
          refine j_goto C d_X_cheapestLast_74 (tgt := 9) (by decide) ?_
          refine j_take 6 rfl ?_
          exact ih (by omega) _ _ hnew
        · have hcd : cand (N 6) blk i := ⟨b_21, by omega⟩
          refine j_aload_n C d_X_cheapestLast_48 (a := h 0) rfl ?_
          refine j_iload C d_X_cheapestLast_49 (x := nI i) rfl ?_
          refine j_iload_n C d_X_cheapestLast_51 (x := nI e) rfl ?_
          refine j_calli C (c_X_costNow l D h cs hN hfo hfb (i := i) (t := e) (by omega) (by omega)) (As := [.int (nI i), .int (nI e)]) (rest := []) ok_X_costNow ml_X_106 (by decide) d_X_cheapestLast_52 (q0 := 0) rfl rfl rfl rfl (Nat.le_of_ble_eq_true rfl) ?_
          intro r u' hp
          obtain ⟨rfl, rfl⟩ := hp
          have hcb := hco i (by omega)
          refine j_istore C d_X_cheapestLast_55 (Nat.le_of_ble_eq_true rfl) (Nat.le_of_ble_eq_true rfl) (L' := [.ref (h 0), .int (nI blk), .int (nI e), .int (nI best), .int (iI least), .int (nI i), .int (nI 1), .int (iI (cnow N fo fb i e))]) rfl ?_
          refine j_iload C d_X_cheapestLast_57 (x := iI (cnow N fo fb i e)) rfl ?_
          refine j_iload C d_X_cheapestLast_59 (x := iI least) rfl ?_
          refine j_icmp_ge C d_X_cheapestLast_61 (tgt := 71) (by decide) (iI_toInt (z := cnow N fo fb i e) (by omega) (by omega)) (iI_toInt (z := least) (by omega) (by omega)) (fun c_61 => ?_) (fun c_61 => ?_)
          · have hnew := CLP_skip hF (Or.inr c_61) hco2 (by omega)
            refine j_iinc C d_X_cheapestLast_71 (Nat.le_of_ble_eq_true rfl) (x := nI i) (v := nI (i + 1)) rfl (nI_add _ _) (L' := [.ref (h 0), .int (nI blk), .int (nI e), .int (nI best), .int (iI least), .int (nI (i + 1)), .int (nI 1), .int (iI (cnow N fo fb i e))]) rfl ?_
            refine j_goto C d_X_cheapestLast_74 (tgt := 9) (by decide) ?_
            refine j_take 6 rfl ?_
            exact ih (by omega) _ _ hnew
          · have hnew := CLP_set hF hcd c_61 (by omega)
            refine j_iload C d_X_cheapestLast_64 (x := iI (cnow N fo fb i e)) rfl ?_
            refine j_istore C d_X_cheapestLast_66 (Nat.le_of_ble_eq_true rfl) (Nat.le_of_ble_eq_true rfl) (L' := [.ref (h 0), .int (nI blk), .int (nI e), .int (nI best), .int (iI (cnow N fo fb i e)), .int (nI i), .int (nI 1), .int (iI (cnow N fo fb i e))]) rfl ?_
            refine j_iload C d_X_cheapestLast_68 (x := nI i) rfl ?_
            refine j_istore_n C d_X_cheapestLast_70 (Nat.le_of_ble_eq_true rfl) (Nat.le_of_ble_eq_true rfl) (L' := [.ref (h 0), .int (nI blk), .int (nI e), .int (nI i), .int (iI (cnow N fo fb i e)), .int (nI i), .int (nI 1), .int (iI (cnow N fo fb i e))]) rfl ?_
            refine j_iinc C d_X_cheapestLast_71 (Nat.le_of_ble_eq_true rfl) (x := nI i) (v := nI (i + 1)) rfl (nI_add _ _) (L' := [.ref (h 0), .int (nI blk), .int (nI e), .int (nI i), .int (iI (cnow N fo fb i e)), .int (nI (i + 1)), .int (nI 1), .int (iI (cnow N fo fb i e))]) rfl ?_
            refine j_goto C d_X_cheapestLast_74 (tgt := 9) (by decide) ?_
            refine j_take 6 rfl ?_
            exact ih (by omega) _ _ hnew
set_option maxHeartbeats 4000000 in
set_option maxRecDepth 100000 in
/-- cheapestLast(blk, e) -/
theorem c_X_cheapestLast (l : Launch) (D : va_G) (h : Nat → Nat) (cs : Nat → ClassId) {cp : Nat} {cap : Int} {pr : Nat} {fo : Int} {fb pn be : Nat} {N : Nat → Nat → Nat} (hN : okN N) (hfo : -1 ≤ fo ∧ fo < 5) (hfb : fb ≤ 60) {blk e : Nat} (hb : blk < 32) (he : e ≤ 60) (hex : ∃ j, cand (N 6) blk j) : CI l y_X_cheapestLast b_X_cheapestLast 8 .int 2 D (tysX cs) (wX h cs) (cp, cap, pr, fo, fb, pn, be, N) [.ref (h 0), .int (nI blk), .int (nI e)] (fun r u' => u' = (cp, cap, pr, fo, fb, pn, be, N) ∧ ∃ q, r = nI q ∧ cand (N 6) blk q ∧ ∀ j, cand (N 6) blk j → cnow N fo fb q e ≤ cnow N fo fb j e) := by
  refine CI_of ok_X_cheapestLast (Nat.le_of_ble_eq_true rfl) (cat_all rfl) ?_
  intro K C hret
  have C : Kok D (tysX cs) K b_X_cheapestLast 8 R_X 2 := C
  refine j_iconst C d_X_cheapestLast_0 (v := nI 0) (by decide) ?_
  refine j_istore_n C d_X_cheapestLast_1 (Nat.le_of_ble_eq_true rfl) (Nat.le_of_ble_eq_true rfl) (L' := [.ref (h 0), .int (nI blk), .int (nI e), .int (nI 0)]) rfl ?_
  refine j_ldc C d_X_cheapestLast_2 kc_X_116 (v := iI (100001)) (by decide) ?_
  refine j_istore C d_X_cheapestLast_4 (Nat.le_of_ble_eq_true rfl) (Nat.le_of_ble_eq_true rfl) (L' := [.ref (h 0), .int (nI blk), .int (nI e), .int (nI 0), .int (iI (100001))]) rfl ?_
  refine j_iconst C d_X_cheapestLast_6 (v := nI 0) (by decide) ?_
  refine j_istore C d_X_cheapestLast_7 (Nat.le_of_ble_eq_true rfl) (Nat.le_of_ble_eq_true rfl) (L' := [.ref (h 0), .int (nI blk), .int (nI e), .int (nI 0), .int (iI (100001)), .int (nI 0)]) rfl ?_
  refine lp_X_cheapestLast C hN hfo hfb hb he (fun best least hF => ?_) 0 (by omega) 0 100001 (CLP_0 _ _ _)
  have hE := CLP_end hb hF hex
  refine j_iload_n C d_X_cheapestLast_77 (x := nI best) rfl ?_
  exact hret _ _ _ _ d_X_cheapestLast_78 rfl ⟨rfl, best, rfl, hE⟩
theorem d_X_rule_0 : decode b_X_rule 0 = .ok (.aload_n 0, 1) := by decide +kernel
theorem d_X_rule_1 : decode b_X_rule 1 = .ok (.getfield 16, 3) := by decide +kernel
theorem d_X_rule_4 : decode b_X_rule 4 = .ok (.iload_n 1, 1) := by decide +kernel
theorem d_X_rule_5 : decode b_X_rule 5 = .ok (.iload_n 2, 1) := by decide +kernel
theorem d_X_rule_6 : decode b_X_rule 6 = .ok (.i2b, 1) := by decide +kernel
theorem d_X_rule_7 : decode b_X_rule 7 = .ok (.bastore, 1) := by decide +kernel
theorem d_X_rule_8 : decode b_X_rule 8 = .ok (.aload_n 0, 1) := by decide +kernel
theorem d_X_rule_9 : decode b_X_rule 9 = .ok (.getfield 19, 3) := by decide +kernel
theorem d_X_rule_12 : decode b_X_rule 12 = .ok (.iload_n 1, 1) := by decide +kernel
theorem d_X_rule_13 : decode b_X_rule 13 = .ok (.iload_n 3, 1) := by decide +kernel
theorem d_X_rule_14 : decode b_X_rule 14 = .ok (.i2b, 1) := by decide +kernel
theorem d_X_rule_15 : decode b_X_rule 15 = .ok (.bastore, 1) := by decide +kernel
theorem d_X_rule_16 : decode b_X_rule 16 = .ok (.aload_n 0, 1) := by decide +kernel
theorem d_X_rule_17 : decode b_X_rule 17 = .ok (.getfield 22, 3) := by decide +kernel
theorem d_X_rule_20 : decode b_X_rule 20 = .ok (.iload_n 1, 1) := by decide +kernel
theorem d_X_rule_21 : decode b_X_rule 21 = .ok (.iload 4, 2) := by decide +kernel
theorem d_X_rule_23 : decode b_X_rule 23 = .ok (.i2b, 1) := by decide +kernel
theorem d_X_rule_24 : decode b_X_rule 24 = .ok (.bastore, 1) := by decide +kernel
theorem d_X_rule_25 : decode b_X_rule 25 = .ok (.return_, 1) := by decide +kernel
set_option maxHeartbeats 4000000 in
set_option maxRecDepth 100000 in
/-- rule(i, k, d, w) -/
theorem c_X_rule (l : Launch) (D : va_G) (h : Nat → Nat) (cs : Nat → ClassId) {cp : Nat} {cap : Int} {pr : Nat} {fo : Int} {fb pn be : Nat} {N : Nat → Nat → Nat} {i k dd ww : Nat} (hi : i < 5) (hk : k < 128) (hdd : dd < 128) (hww : ww < 128) : CV l y_X_rule b_X_rule 5 0 D (tysX cs) (wX h cs) (cp, cap, pr, fo, fb, pn, be, N) [.ref (h 0), .int (nI i), .int (nI k), .int (nI dd), .int (nI ww)] (fun u' => u' = (cp, cap, pr, fo, fb, pn, be, va_up (va_up (va_up N 3 (va_up (N 3) i k)) 4 (va_up (N 4) i dd)) 5 (va_up (N 5) i ww))) := by
  refine CV_of ok_X_rule (Nat.le_of_ble_eq_true rfl) (cat_all rfl) ?_
  intro K C hret
  have C : Kok D (tysX cs) K b_X_rule 5 R_X 0 := C
  refine j_aload_n C d_X_rule_0 (a := h 0) rfl ?_
  refine x_get C 5 (v := .ref (h 3)) d_X_rule_1 (by decide) fl_X_5 rfl ?_
  refine j_iload_n C d_X_rule_4 (x := nI i) rfl ?_
  refine j_iload_n C d_X_rule_5 (x := nI k) rfl ?_
  refine j_i2b C d_X_rule_6 (z := nI k) (b_byte (by omega)) ?_
  refine j_bast C 3 2 (g := N 3) (i := i) (v := k) (u' := (cp, cap, pr, fo, fb, pn, be, va_up N 3 (va_up (N 3) i k))) d_X_rule_7 rfl rfl (by omega) (by decide) (by omega) rfl ?_
  refine j_aload_n C d_X_rule_8 (a := h 0) rfl ?_
  refine x_get C 6 (v := .ref (h 4)) d_X_rule_9 (by decide) fl_X_6 rfl ?_
  refine j_iload_n C d_X_rule_12 (x := nI i) rfl ?_
  refine j_iload_n C d_X_rule_13 (x := nI dd) rfl ?_
  refine j_i2b C d_X_rule_14 (z := nI dd) (b_byte (by omega)) ?_
  refine j_bast C 4 3 (g := N 4) (i := i) (v := dd) (u' := (cp, cap, pr, fo, fb, pn, be, va_up (va_up N 3 (va_up (N 3) i k)) 4 (va_up (N 4) i dd))) d_X_rule_15 rfl rfl (by omega) (by decide) (by omega) rfl ?_
  refine j_aload_n C d_X_rule_16 (a := h 0) rfl ?_
  refine x_get C 7 (v := .ref (h 5)) d_X_rule_17 (by decide) fl_X_7 rfl ?_
  refine j_iload_n C d_X_rule_20 (x := nI i) rfl ?_
  refine j_iload C d_X_rule_21 (x := nI ww) rfl ?_
  refine j_i2b C d_X_rule_23 (z := nI ww) (b_byte (by omega)) ?_
  refine j_bast C 5 4 (g := N 5) (i := i) (v := ww) (u' := (cp, cap, pr, fo, fb, pn, be, va_up (va_up (va_up N 3 (va_up (N 3) i k)) 4 (va_up (N 4) i dd)) 5 (va_up (N 5) i ww))) d_X_rule_24 rfl rfl (by omega) (by decide) (by omega) rfl ?_
  exact hret _ _ _ d_X_rule_25 rfl
theorem d_X_freeNumber_0 : decode b_X_freeNumber 0 = .ok (.iconst 0, 1) := by decide +kernel
theorem d_X_freeNumber_1 : decode b_X_freeNumber 1 = .ok (.istore_n 1, 1) := by decide +kernel
theorem d_X_freeNumber_2 : decode b_X_freeNumber 2 = .ok (.iload_n 1, 1) := by decide +kernel
theorem d_X_freeNumber_3 : decode b_X_freeNumber 3 = .ok (.aload_n 0, 1) := by decide +kernel
theorem d_X_freeNumber_4 : decode b_X_freeNumber 4 = .ok (.getfield 38, 3) := by decide +kernel
theorem d_X_freeNumber_7 : decode b_X_freeNumber 7 = .ok (.if_icmp .ge 22, 3) := by decide +kernel
theorem d_X_freeNumber_10 : decode b_X_freeNumber 10 = .ok (.aload_n 0, 1) := by decide +kernel
theorem d_X_freeNumber_11 : decode b_X_freeNumber 11 = .ok (.getfield 56, 3) := by decide +kernel
theorem d_X_freeNumber_14 : decode b_X_freeNumber 14 = .ok (.iload_n 1, 1) := by decide +kernel
theorem d_X_freeNumber_15 : decode b_X_freeNumber 15 = .ok (.ishr, 1) := by decide +kernel
theorem d_X_freeNumber_16 : decode b_X_freeNumber 16 = .ok (.iconst 1, 1) := by decide +kernel
theorem d_X_freeNumber_17 : decode b_X_freeNumber 17 = .ok (.iand, 1) := by decide +kernel
theorem d_X_freeNumber_18 : decode b_X_freeNumber 18 = .ok (.ifCond .ne 5, 3) := by decide +kernel
theorem d_X_freeNumber_21 : decode b_X_freeNumber 21 = .ok (.iload_n 1, 1) := by decide +kernel
theorem d_X_freeNumber_22 : decode b_X_freeNumber 22 = .ok (.ireturn, 1) := by decide +kernel
theorem d_X_freeNumber_23 : decode b_X_freeNumber 23 = .ok (.iinc 1 1, 3) := by decide +kernel
theorem d_X_freeNumber_26 : decode b_X_freeNumber 26 = .ok (.goto (-24), 3) := by decide +kernel
theorem d_X_freeNumber_29 : decode b_X_freeNumber 29 = .ok (.iconst (-1), 1) := by decide +kernel
theorem d_X_freeNumber_30 : decode b_X_freeNumber 30 = .ok (.ireturn, 1) := by decide +kernel
set_option maxHeartbeats 4000000 in
set_option maxRecDepth 100000 in
/-- freeNumber() -/
theorem c_X_freeNumber (l : Launch) (D : va_G) (h : Nat → Nat) (cs : Nat → ClassId) {cp : Nat} {cap : Int} {pr : Nat} {fo : Int} {fb pn be : Nat} {N : Nat → Nat → Nat} (hcp : cp ≤ 5) (hpr : pr < 32) : CI l y_X_freeNumber b_X_freeNumber 2 .int 0 D (tysX cs) (wX h cs) (cp, cap, pr, fo, fb, pn, be, N) [.ref (h 0)] (fun r u' => u' = (cp, cap, pr, fo, fb, pn, be, N) ∧ ((r = (-1 : Int32) ∧ ∀ j, j < cp → pr.testBit j = true) ∨ ∃ i, r = nI i ∧ i < cp ∧ pr.testBit i = false ∧ ∀ j, j < i → pr.testBit j = true)) := by
  refine CI_of ok_X_freeNumber (Nat.le_of_ble_eq_true rfl) (cat_all rfl) ?_
  intro K C hret
  have C : Kok D (tysX cs) K b_X_freeNumber 2 R_X 0 := C
  refine j_iconst C d_X_freeNumber_0 (v := nI 0) (by decide) ?_
  refine j_istore_n C d_X_freeNumber_1 (Nat.le_of_ble_eq_true rfl) (Nat.le_of_ble_eq_true rfl) (L' := [.ref (h 0), .int (nI 0)]) rfl ?_
  have key : ∀ i, i ≤ cp → (∀ j, j < i → pr.testBit j = true) → J l D K (wX h cs) (cp, cap, pr, fo, fb, pn, be, N) 2 [.ref (h 0), .int (nI i)] [] := by
    refine up_ind cp ?_
    intro i hi ih hF
    refine j_iload_n C d_X_freeNumber_2 (x := nI i) rfl ?_
    refine j_aload_n C d_X_freeNumber_3 (a := h 0) rfl ?_
    refine x_get C 0 (v := .int (nI cp)) d_X_freeNumber_4 (by decide) fl_X_0 rfl ?_
    refine j_icmp_ge C d_X_freeNumber_7 (tgt := 29) (by decide) (tI i (by omega)) (tI cp (by omega)) (fun c_7 => ?_) (fun c_7 => ?_)
    · refine j_iconst C d_X_freeNumber_29 (v := (-1)) (by decide) ?_
      exact hret _ _ _ _ d_X_freeNumber_30 rfl ⟨rfl, Or.inl ⟨rfl, fun j hj => hF j (by omega)⟩⟩
    · refine j_aload_n C d_X_freeNumber_10 (a := h 0) rfl ?_
      refine x_get C 2 (v := .int (nI pr)) d_X_freeNumber_11 (by decide) fl_X_2 rfl ?_
      refine j_iload_n C d_X_freeNumber_14 (x := nI i) rfl ?_
      refine j_ishr C d_X_freeNumber_15 (z := nI (pr / 2 ^ i)) (nI_shr (by omega) (by omega)) ?_
      refine j_iconst C d_X_freeNumber_16 (v := nI 1) (by decide) ?_
      refine j_iand C d_X_freeNumber_17 (z := nI (tb pr i)) (nI_bit (by omega)) ?_
      refine j_if_ne C d_X_freeNumber_18 (tgt := 23) (by decide) (tI _ (tb_lt _ _)) (fun c_18 => ?_) (fun c_18 => ?_)
      · have b_18 : Nat.testBit pr i = true := tb_t c_18
        refine j_iinc C d_X_freeNumber_23 (Nat.le_of_ble_eq_true rfl) (x := nI i) (v := nI (i + 1)) rfl (nI_add _ _) (L' := [.ref (h 0), .int (nI (i + 1))]) rfl ?_
        refine j_goto C d_X_freeNumber_26 (tgt := 2) (by decide) ?_
        exact ih (by omega) (fun j hj => by rcases lt_succ_cases hj with q | rfl; exact hF j q; exact b_18)
      · have b_18 : Nat.testBit pr i = false := tb_f c_18
        refine j_iload_n C d_X_freeNumber_21 (x := nI i) rfl ?_
        exact hret _ _ _ _ d_X_freeNumber_22 rfl ⟨rfl, Or.inr ⟨i, rfl, by omega, b_18, hF⟩⟩
  exact key 0 (by omega) (fun j hj => by omega)
theorem d_X_setReady_0 : decode b_X_setReady 0 = .ok (.iconst 0, 1) := by decide +kernel
theorem d_X_setReady_1 : decode b_X_setReady 1 = .ok (.istore_n 2, 1) := by decide +kernel
theorem d_X_setReady_2 : decode b_X_setReady 2 = .ok (.iload_n 2, 1) := by decide +kernel
theorem d_X_setReady_3 : decode b_X_setReady 3 = .ok (.iconst 5, 1) := by decide +kernel
theorem d_X_setReady_4 : decode b_X_setReady 4 = .ok (.if_icmp .ge 21, 3) := by decide +kernel
theorem d_X_setReady_7 : decode b_X_setReady 7 = .ok (.aload_n 0, 1) := by decide +kernel
theorem d_X_setReady_8 : decode b_X_setReady 8 = .ok (.getfield 32, 3) := by decide +kernel
theorem d_X_setReady_11 : decode b_X_setReady 11 = .ok (.iload_n 2, 1) := by decide +kernel
theorem d_X_setReady_12 : decode b_X_setReady 12 = .ok (.aload_n 0, 1) := by decide +kernel
theorem d_X_setReady_13 : decode b_X_setReady 13 = .ok (.getfield 7, 3) := by decide +kernel
theorem d_X_setReady_16 : decode b_X_setReady 16 = .ok (.iload_n 2, 1) := by decide +kernel
theorem d_X_setReady_17 : decode b_X_setReady 17 = .ok (.baload, 1) := by decide +kernel
theorem d_X_setReady_18 : decode b_X_setReady 18 = .ok (.bastore, 1) := by decide +kernel
theorem d_X_setReady_19 : decode b_X_setReady 19 = .ok (.iinc 2 1, 3) := by decide +kernel
theorem d_X_setReady_22 : decode b_X_setReady 22 = .ok (.goto (-20), 3) := by decide +kernel
theorem d_X_setReady_25 : decode b_X_setReady 25 = .ok (.iconst 0, 1) := by decide +kernel
theorem d_X_setReady_26 : decode b_X_setReady 26 = .ok (.istore_n 2, 1) := by decide +kernel
theorem d_X_setReady_27 : decode b_X_setReady 27 = .ok (.iload_n 2, 1) := by decide +kernel
theorem d_X_setReady_28 : decode b_X_setReady 28 = .ok (.iconst 5, 1) := by decide +kernel
theorem d_X_setReady_29 : decode b_X_setReady 29 = .ok (.if_icmp .ge 36, 3) := by decide +kernel
theorem d_X_setReady_32 : decode b_X_setReady 32 = .ok (.iconst 0, 1) := by decide +kernel
theorem d_X_setReady_33 : decode b_X_setReady 33 = .ok (.istore_n 3, 1) := by decide +kernel
theorem d_X_setReady_34 : decode b_X_setReady 34 = .ok (.iload_n 3, 1) := by decide +kernel
theorem d_X_setReady_35 : decode b_X_setReady 35 = .ok (.iconst 5, 1) := by decide +kernel
theorem d_X_setReady_36 : decode b_X_setReady 36 = .ok (.if_icmp .ge 23, 3) := by decide +kernel
theorem d_X_setReady_39 : decode b_X_setReady 39 = .ok (.iload_n 1, 1) := by decide +kernel
theorem d_X_setReady_40 : decode b_X_setReady 40 = .ok (.iload_n 3, 1) := by decide +kernel
theorem d_X_setReady_41 : decode b_X_setReady 41 = .ok (.ishr, 1) := by decide +kernel
theorem d_X_setReady_42 : decode b_X_setReady 42 = .ok (.iconst 1, 1) := by decide +kernel
theorem d_X_setReady_43 : decode b_X_setReady 43 = .ok (.iand, 1) := by decide +kernel
theorem d_X_setReady_44 : decode b_X_setReady 44 = .ok (.ifCond .eq 9, 3) := by decide +kernel
theorem d_X_setReady_47 : decode b_X_setReady 47 = .ok (.aload_n 0, 1) := by decide +kernel
theorem d_X_setReady_48 : decode b_X_setReady 48 = .ok (.iload_n 3, 1) := by decide +kernel
theorem d_X_setReady_49 : decode b_X_setReady 49 = .ok (.iload_n 1, 1) := by decide +kernel
theorem d_X_setReady_50 : decode b_X_setReady 50 = .ok (.invokevirtual 109, 3) := by decide +kernel
theorem d_X_setReady_53 : decode b_X_setReady 53 = .ok (.iinc 3 1, 3) := by decide +kernel
theorem d_X_setReady_56 : decode b_X_setReady 56 = .ok (.goto (-22), 3) := by decide +kernel
theorem d_X_setReady_59 : decode b_X_setReady 59 = .ok (.iinc 2 1, 3) := by decide +kernel
theorem d_X_setReady_62 : decode b_X_setReady 62 = .ok (.goto (-35), 3) := by decide +kernel
theorem d_X_setReady_65 : decode b_X_setReady 65 = .ok (.return_, 1) := by decide +kernel
set_option maxHeartbeats 4000000 in
set_option maxRecDepth 100000 in
theorem lp_X_setReady2 {l : Launch} {D : va_G} {h : Nat → Nat} {cs : Nat → ClassId} {cp : Nat} {cap : Int} {pr : Nat} {fo : Int} {fb pn be : Nat} {N : Nat → Nat → Nat} {K : Kc} (C : Kok D (tysX cs) K b_X_setReady 4 R_X 1) {g : Nat} {rk : Nat → Nat} (hg : g < 32) (hN : okN N) (hA : Acy g (N 6) rk) {r : Nat} (hr : r < 5) (kk : ∀ rd, SR g (N 1) (N 2) (N 6) rk r 5 rd → J l D K (wX h cs) (cp, cap, pr, fo, fb, pn, be, va_up N 7 rd) 59 [.ref (h 0), .int (nI g), .int (nI r)] []) : ∀ i, i ≤ 5 → ∀ rd, SR g (N 1) (N 2) (N 6) rk r i rd → J l D K (wX h cs) (cp, cap, pr, fo, fb, pn, be, va_up N 7 rd) 34 [.ref (h 0), .int (nI g), .int (nI r), .int (nI i)] [] := by
  refine up_ind 5 ?_
  intro i hi ih rd hF
  have hr18 : ∀ j, j < 5 → N 1 j ≤ 18 := fun j hj => (hN j hj).1
  have hl3 : ∀ j, j < 5 → N 2 j ≤ 3 := fun j hj => (hN j hj).2.1
  have hbd := SR_bd hA hg hr18 hl3 hF
  refine j_iload_n C d_X_setReady_34 (x := nI i) rfl ?_
  refine j_iconst C d_X_setReady_35 (v := nI 5) (by decide) ?_
  refine j_icmp_ge C d_X_setReady_36 (tgt := 59) (by decide) (tI i (by omega)) (tI 5 (by decide)) (fun c_36 => ?_) (fun c_36 => ?_)
  · obtain rfl : i = 5 := by omega
    refine j_take 3 rfl ?_
    exact kk rd hF
  · refine j_iload_n C d_X_setReady_39 (x := nI g) rfl ?_
    refine j_iload_n C d_X_setReady_40 (x := nI i) rfl ?_
    refine j_ishr C d_X_setReady_41 (z := nI (g / 2 ^ i)) (nI_shr (by omega) (by omega)) ?_
    refine j_iconst C d_X_setReady_42 (v := nI 1) (by decide) ?_
    refine j_iand C d_X_setReady_43 (z := nI (tb g i)) (nI_bit (by omega)) ?_
    refine j_if_eq C d_X_setReady_44 (tgt := 53) (by decide) (tI _ (tb_lt _ _)) (fun c_44 => ?_) (fun c_44 => ?_)
    · have b_44 : Nat.testBit g i = false := tb_f c_44
      have hnew := SR_skip hF b_44
      refine j_iinc C d_X_setReady_53 (Nat.le_of_ble_eq_true rfl) (x := nI i) (v := nI (i + 1)) rfl (nI_add _ _) (L' := [.ref (h 0), .int (nI g), .int (nI r), .int (nI (i + 1))]) rfl ?_
      refine j_goto C d_X_setReady_56 (tgt := 34) (by decide) ?_
      exact ih (by omega) _ hnew
    · have b_44 : Nat.testBit g i = true := tb_t c_44
      refine j_aload_n C d_X_setReady_47 (a := h 0) rfl ?_
      refine j_iload_n C d_X_setReady_48 (x := nI i) rfl ?_
      refine j_iload_n C d_X_setReady_49 (x := nI g) rfl ?_
      refine j_callv C (c_X_pushFollowers l D h cs (N := va_up N 7 rd) (i := i) (g := g) (by omega) hg hN (fun j hj => Nat.lt_of_le_of_lt (hbd j hj) (by decide)) (by have h1 := hbd i (by omega); have h2 := hl3 i (by omega); show rd i + N 2 i < 128; omega)) (As := [.int (nI i), .int (nI g)]) (rest := []) ok_X_pushFollowers ml_X_109 (by decide) d_X_setReady_50 (q0 := 0) rfl rfl rfl rfl (Nat.le_of_ble_eq_true rfl) ?_
      intro u' hp
      obtain ⟨rd', rfl, hp⟩ := hp
      refine j_same (u' := (cp, cap, pr, fo, fb, pn, be, va_up N 7 rd')) rfl ?_
      have hp : pfP rd (N 6 i &&& g) (rd i + N 2 i) 5 rd' := hp
      have hnew := SR_push hA hg hF b_44 hp
      refine j_iinc C d_X_setReady_53 (Nat.le_of_ble_eq_true rfl) (x := nI i) (v := nI (i + 1)) rfl (nI_add _ _) (L' := [.ref (h 0), .int (nI g), .int (nI r), .int (nI (i + 1))]) rfl ?_
      refine j_goto C d_X_setReady_56 (tgt := 34) (by decide) ?_
      exact ih (by omega) _ hnew
set_option maxHeartbeats 4000000 in
set_option maxRecDepth 100000 in
theorem lp_X_setReady1 {l : Launch} {D : va_G} {h : Nat → Nat} {cs : Nat → ClassId} {cp : Nat} {cap : Int} {pr : Nat} {fo : Int} {fb pn be : Nat} {N : Nat → Nat → Nat} {K : Kc} (C : Kok D (tysX cs) K b_X_setReady 4 R_X 1) {g : Nat} {rk : Nat → Nat} (hg : g < 32) (hN : okN N) (hA : Acy g (N 6) rk) (kk : ∀ rd, SR g (N 1) (N 2) (N 6) rk 5 0 rd → J l D K (wX h cs) (cp, cap, pr, fo, fb, pn, be, va_up N 7 rd) 65 [.ref (h 0), .int (nI g)] []) : ∀ r, r ≤ 5 → ∀ rd, SR g (N 1) (N 2) (N 6) rk r 0 rd → J l D K (wX h cs) (cp, cap, pr, fo, fb, pn, be, va_up N 7 rd) 27 [.ref (h 0), .int (nI g), .int (nI r)] [] := by
  refine up_ind 5 ?_
  intro r hr ih rd hF
  refine j_iload_n C d_X_setReady_27 (x := nI r) rfl ?_
  refine j_iconst C d_X_setReady_28 (v := nI 5) (by decide) ?_
  refine j_icmp_ge C d_X_setReady_29 (tgt := 65) (by decide) (tI r (by omega)) (tI 5 (by decide)) (fun c_29 => ?_) (fun c_29 => ?_)
  · obtain rfl : r = 5 := by omega
    refine j_take 2 rfl ?_
    exact kk rd hF
  · refine j_iconst C d_X_setReady_32 (v := nI 0) (by decide) ?_
    refine j_istore_n C d_X_setReady_33 (Nat.le_of_ble_eq_true rfl) (Nat.le_of_ble_eq_true rfl) (L' := [.ref (h 0), .int (nI g), .int (nI r), .int (nI 0)]) rfl ?_
    refine lp_X_setReady2 C hg hN hA (r := r) (by omega) (fun rd hF => ?_) 0 (by omega) rd hF
    refine j_iinc C d_X_setReady_59 (Nat.le_of_ble_eq_true rfl) (x := nI r) (v := nI (r + 1)) rfl (nI_add _ _) (L' := [.ref (h 0), .int (nI g), .int (nI (r + 1))]) rfl ?_
    refine j_goto C d_X_setReady_62 (tgt := 27) (by decide) ?_
    exact ih (by omega) _ (SR_round hA hg hF)
set_option maxHeartbeats 4000000 in
set_option maxRecDepth 100000 in
/-- setReady(g) -/
theorem c_X_setReady (l : Launch) (D : va_G) (h : Nat → Nat) (cs : Nat → ClassId) {cp : Nat} {cap : Int} {pr : Nat} {fo : Int} {fb pn be : Nat} {N : Nat → Nat → Nat} {g : Nat} {rk : Nat → Nat} (hg : g < 32) (hN : okN N) (hA : Acy g (N 6) rk) : CV l y_X_setReady b_X_setReady 4 1 D (tysX cs) (wX h cs) (cp, cap, pr, fo, fb, pn, be, N) [.ref (h 0), .int (nI g)] (fun u' => ∃ rd, u' = (cp, cap, pr, fo, fb, pn, be, va_up N 7 rd) ∧ RdOK g (N 1) (N 2) (fun i j => (N 6 i).testBit j = true) rd) := by
  refine CV_of ok_X_setReady (Nat.le_of_ble_eq_true rfl) (cat_all rfl) ?_
  intro K C hret
  have C : Kok D (tysX cs) K b_X_setReady 4 R_X 1 := C
  refine j_iconst C d_X_setReady_0 (v := nI 0) (by decide) ?_
  refine j_istore_n C d_X_setReady_1 (Nat.le_of_ble_eq_true rfl) (Nat.le_of_ble_eq_true rfl) (L' := [.ref (h 0), .int (nI g), .int (nI 0)]) rfl ?_
  refine j_same (u' := (cp, cap, pr, fo, fb, pn, be, va_up N 7 (N 7))) rfl ?_
  have key : ∀ i, i ≤ 5 → ∀ rd, (∀ q, q < i → rd q = N 1 q) → J l D K (wX h cs) (cp, cap, pr, fo, fb, pn, be, va_up N 7 rd) 2 [.ref (h 0), .int (nI g), .int (nI i)] [] := by
    refine up_ind 5 ?_
    intro i hi ih rd hF
    refine j_iload_n C d_X_setReady_2 (x := nI i) rfl ?_
    refine j_iconst C d_X_setReady_3 (v := nI 5) (by decide) ?_
    refine j_icmp_ge C d_X_setReady_4 (tgt := 25) (by decide) (tI i (by omega)) (tI 5 (by decide)) (fun c_4 => ?_) (fun c_4 => ?_)
    · obtain rfl : i = 5 := by omega
      refine j_iconst C d_X_setReady_25 (v := nI 0) (by decide) ?_
      refine j_istore_n C d_X_setReady_26 (Nat.le_of_ble_eq_true rfl) (Nat.le_of_ble_eq_true rfl) (L' := [.ref (h 0), .int (nI g), .int (nI 0)]) rfl ?_
      refine lp_X_setReady1 C hg hN hA (fun rd hF => ?_) 0 (by omega) rd (SR_0 hA hg hF)
      exact hret _ _ _ d_X_setReady_65 ⟨rd, rfl, SR_end hA hg (fun j hj => (hN j hj).1) (fun j hj => (hN j hj).2.1) hF⟩
    · refine j_aload_n C d_X_setReady_7 (a := h 0) rfl ?_
      refine x_get C 11 (v := .ref (h 7)) d_X_setReady_8 (by decide) fl_X_11 rfl ?_
      refine j_iload_n C d_X_setReady_11 (x := nI i) rfl ?_
      refine j_aload_n C d_X_setReady_12 (a := h 0) rfl ?_
      refine x_get C 3 (v := .ref (h 1)) d_X_setReady_13 (by decide) fl_X_3 rfl ?_
      refine j_iload_n C d_X_setReady_16 (x := nI i) rfl ?_
      refine j_bald C 1 0 (f := fun ξ => nI ((N 1) ξ)) (i := i) (v := nI (N 1 i)) d_X_setReady_17 rfl rfl (by omega) (by decide) rfl ?_
      have q_17 := (hN i (by omega)).1
      refine j_bast C 7 6 (g := rd) (i := i) (v := N 1 i) (u' := (cp, cap, pr, fo, fb, pn, be, va_up N 7 (va_up rd i (N 1 i)))) d_X_setReady_18 rfl rfl (by omega) (by decide) (by omega) rfl ?_
      refine j_iinc C d_X_setReady_19 (Nat.le_of_ble_eq_true rfl) (x := nI i) (v := nI (i + 1)) rfl (nI_add _ _) (L' := [.ref (h 0), .int (nI g), .int (nI (i + 1))]) rfl ?_
      refine j_goto C d_X_setReady_22 (tgt := 2) (by decide) ?_
      exact ih (by omega) _ (fun q hq => by rcases lt_succ_cases hq with z | rfl; rw [va_up_ne _ _ (by omega)]; exact hF q z; exact va_up_self _ _ _)
  exact key 0 (by omega) (N 7) (fun q hq => by omega)
theorem d_X_reachable_0 : decode b_X_reachable 0 = .ok (.iconst 1, 1) := by decide +kernel
theorem d_X_reachable_1 : decode b_X_reachable 1 = .ok (.iload_n 1, 1) := by decide +kernel
theorem d_X_reachable_2 : decode b_X_reachable 2 = .ok (.ishl, 1) := by decide +kernel
theorem d_X_reachable_3 : decode b_X_reachable 3 = .ok (.istore_n 2, 1) := by decide +kernel
theorem d_X_reachable_4 : decode b_X_reachable 4 = .ok (.iconst 0, 1) := by decide +kernel
theorem d_X_reachable_5 : decode b_X_reachable 5 = .ok (.istore_n 3, 1) := by decide +kernel
theorem d_X_reachable_6 : decode b_X_reachable 6 = .ok (.iload_n 3, 1) := by decide +kernel
theorem d_X_reachable_7 : decode b_X_reachable 7 = .ok (.iconst 5, 1) := by decide +kernel
theorem d_X_reachable_8 : decode b_X_reachable 8 = .ok (.if_icmp .ge 43, 3) := by decide +kernel
theorem d_X_reachable_11 : decode b_X_reachable 11 = .ok (.iconst 0, 1) := by decide +kernel
theorem d_X_reachable_12 : decode b_X_reachable 12 = .ok (.istore 4, 2) := by decide +kernel
theorem d_X_reachable_14 : decode b_X_reachable 14 = .ok (.iload 4, 2) := by decide +kernel
theorem d_X_reachable_16 : decode b_X_reachable 16 = .ok (.iconst 5, 1) := by decide +kernel
theorem d_X_reachable_17 : decode b_X_reachable 17 = .ok (.if_icmp .ge 28, 3) := by decide +kernel
theorem d_X_reachable_20 : decode b_X_reachable 20 = .ok (.iload_n 2, 1) := by decide +kernel
theorem d_X_reachable_21 : decode b_X_reachable 21 = .ok (.iload 4, 2) := by decide +kernel
theorem d_X_reachable_23 : decode b_X_reachable 23 = .ok (.ishr, 1) := by decide +kernel
theorem d_X_reachable_24 : decode b_X_reachable 24 = .ok (.iconst 1, 1) := by decide +kernel
theorem d_X_reachable_25 : decode b_X_reachable 25 = .ok (.iand, 1) := by decide +kernel
theorem d_X_reachable_26 : decode b_X_reachable 26 = .ok (.ifCond .eq 13, 3) := by decide +kernel
theorem d_X_reachable_29 : decode b_X_reachable 29 = .ok (.iload_n 2, 1) := by decide +kernel
theorem d_X_reachable_30 : decode b_X_reachable 30 = .ok (.aload_n 0, 1) := by decide +kernel
theorem d_X_reachable_31 : decode b_X_reachable 31 = .ok (.getfield 25, 3) := by decide +kernel
theorem d_X_reachable_34 : decode b_X_reachable 34 = .ok (.iload 4, 2) := by decide +kernel
theorem d_X_reachable_36 : decode b_X_reachable 36 = .ok (.baload, 1) := by decide +kernel
theorem d_X_reachable_37 : decode b_X_reachable 37 = .ok (.ior, 1) := by decide +kernel
theorem d_X_reachable_38 : decode b_X_reachable 38 = .ok (.istore_n 2, 1) := by decide +kernel
theorem d_X_reachable_39 : decode b_X_reachable 39 = .ok (.iinc 4 1, 3) := by decide +kernel
theorem d_X_reachable_42 : decode b_X_reachable 42 = .ok (.goto (-28), 3) := by decide +kernel
theorem d_X_reachable_45 : decode b_X_reachable 45 = .ok (.iinc 3 1, 3) := by decide +kernel
theorem d_X_reachable_48 : decode b_X_reachable 48 = .ok (.goto (-42), 3) := by decide +kernel
theorem d_X_reachable_51 : decode b_X_reachable 51 = .ok (.iload_n 2, 1) := by decide +kernel
theorem d_X_reachable_52 : decode b_X_reachable 52 = .ok (.ireturn, 1) := by decide +kernel
set_option maxHeartbeats 4000000 in
set_option maxRecDepth 100000 in
theorem lp_X_reachable2 {l : Launch} {D : va_G} {h : Nat → Nat} {cs : Nat → ClassId} {cp : Nat} {cap : Int} {pr : Nat} {fo : Int} {fb pn be : Nat} {N : Nat → Nat → Nat} {K : Kc} (C : Kok D (tysX cs) K b_X_reachable 5 R_X 0) {j : Nat} (hj : pr.testBit j = true) (hpr : pr < 32) (hN : okN N) (hsub : ∀ i, pr.testBit i = true → ∀ v, (N 6 i).testBit v = true → pr.testBit v = true) {r : Nat} (hr : r < 5) (kk : ∀ s, REP (EX pr (N 6)) j r 5 s → J l D K (wX h cs) (cp, cap, pr, fo, fb, pn, be, N) 45 [.ref (h 0), .int (nI j), .int (nI s), .int (nI r)] []) : ∀ i, i ≤ 5 → ∀ s, REP (EX pr (N 6)) j r i s → J l D K (wX h cs) (cp, cap, pr, fo, fb, pn, be, N) 14 [.ref (h 0), .int (nI j), .int (nI s), .int (nI r), .int (nI i)] [] := by
  refine up_ind 5 ?_
  intro i hi ih s hF
  have hs := hF.1
  refine j_iload C d_X_reachable_14 (x := nI i) rfl ?_
  refine j_iconst C d_X_reachable_16 (v := nI 5) (by decide) ?_
  refine j_icmp_ge C d_X_reachable_17 (tgt := 45) (by decide) (tI i (by omega)) (tI 5 (by decide)) (fun c_17 => ?_) (fun c_17 => ?_)
  · obtain rfl : i = 5 := by omega
    refine j_take 4 rfl ?_
    exact kk s hF
  · refine j_iload_n C d_X_reachable_20 (x := nI s) rfl ?_
    refine j_iload C d_X_reachable_21 (x := nI i) rfl ?_
    refine j_ishr C d_X_reachable_23 (z := nI (s / 2 ^ i)) (nI_shr (by omega) (by omega)) ?_
    refine j_iconst C d_X_reachable_24 (v := nI 1) (by decide) ?_
    refine j_iand C d_X_reachable_25 (z := nI (tb s i)) (nI_bit (by omega)) ?_
    refine j_if_eq C d_X_reachable_26 (tgt := 39) (by decide) (tI _ (tb_lt _ _)) (fun c_26 => ?_) (fun c_26 => ?_)
    · have b_26 : Nat.testBit s i = false := tb_f c_26
      have hnew := REP_skip hF (by omega) b_26
      refine j_iinc C d_X_reachable_39 (Nat.le_of_ble_eq_true rfl) (x := nI i) (v := nI (i + 1)) rfl (nI_add _ _) (L' := [.ref (h 0), .int (nI j), .int (nI s), .int (nI r), .int (nI (i + 1))]) rfl ?_
      refine j_goto C d_X_reachable_42 (tgt := 14) (by decide) ?_
      exact ih (by omega) _ hnew
    · have b_26 : Nat.testBit s i = true := tb_t c_26
      obtain ⟨n, hn⟩ := hF.2.1 i b_26
      have hin := Rn_in hj n i hn
      have hnew := REP_or hF (by omega) b_26 (hN i (by omega)).2.2.2.2.2 (fun v => ⟨fun q => ⟨hin, hsub i hin v q, q⟩, fun q => q.2.2⟩)
      refine j_iload_n C d_X_reachable_29 (x := nI s) rfl ?_
      refine j_aload_n C d_X_reachable_30 (a := h 0) rfl ?_
      refine x_get C 8 (v := .ref (h 6)) d_X_reachable_31 (by decide) fl_X_8 rfl ?_
      refine j_iload C d_X_reachable_34 (x := nI i) rfl ?_
      refine j_bald C 6 5 (f := fun ξ => nI ((N 6) ξ)) (i := i) (v := nI (N 6 i)) d_X_reachable_36 rfl rfl (by omega) (by decide) rfl ?_
      refine j_ior C d_X_reachable_37 (z := nI (s ||| (N 6 i))) (nI_or _ _) ?_
      refine j_istore_n C d_X_reachable_38 (Nat.le_of_ble_eq_true rfl) (Nat.le_of_ble_eq_true rfl) (L' := [.ref (h 0), .int (nI j), .int (nI (s ||| (N 6 i))), .int (nI r), .int (nI i)]) rfl ?_
      refine j_iinc C d_X_reachable_39 (Nat.le_of_ble_eq_true rfl) (x := nI i) (v := nI (i + 1)) rfl (nI_add _ _) (L' := [.ref (h 0), .int (nI j), .int (nI (s ||| (N 6 i))), .int (nI r), .int (nI (i + 1))]) rfl ?_
      refine j_goto C d_X_reachable_42 (tgt := 14) (by decide) ?_
      exact ih (by omega) _ hnew
set_option maxHeartbeats 4000000 in
set_option maxRecDepth 100000 in
/-- reachable(j) -/
theorem c_X_reachable (l : Launch) (D : va_G) (h : Nat → Nat) (cs : Nat → ClassId) {cp : Nat} {cap : Int} {pr : Nat} {fo : Int} {fb pn be : Nat} {N : Nat → Nat → Nat} {j : Nat} (hj : pr.testBit j = true) (hpr : pr < 32) (hN : okN N) (hsub : ∀ i, pr.testBit i = true → ∀ v, (N 6 i).testBit v = true → pr.testBit v = true) {rk : Nat → Nat} (hA : Acy pr (N 6) rk) : CI l y_X_reachable b_X_reachable 5 .int 0 D (tysX cs) (wX h cs) (cp, cap, pr, fo, fb, pn, be, N) [.ref (h 0), .int (nI j)] (fun r u' => u' = (cp, cap, pr, fo, fb, pn, be, N) ∧ ∃ s, r = nI s ∧ s < 32 ∧ ∀ v, v < 5 → (s.testBit v = true ↔ Rc (EX pr (N 6)) j v)) := by
  refine CI_of ok_X_reachable (Nat.le_of_ble_eq_true rfl) (cat_all rfl) ?_
  intro K C hret
  have C : Kok D (tysX cs) K b_X_reachable 5 R_X 0 := C
  have hj5 := lt5_of hpr hj
  refine j_iconst C d_X_reachable_0 (v := nI 1) (by decide) ?_
  refine j_iload_n C d_X_reachable_1 (x := nI j) rfl ?_
  refine j_ishl C d_X_reachable_2 (z := nI (2 ^ j)) (nI_shl1 (by omega)) ?_
  refine j_istore_n C d_X_reachable_3 (Nat.le_of_ble_eq_true rfl) (Nat.le_of_ble_eq_true rfl) (L' := [.ref (h 0), .int (nI j), .int (nI (2 ^ j))]) rfl ?_
  refine j_iconst C d_X_reachable_4 (v := nI 0) (by decide) ?_
  refine j_istore_n C d_X_reachable_5 (Nat.le_of_ble_eq_true rfl) (Nat.le_of_ble_eq_true rfl) (L' := [.ref (h 0), .int (nI j), .int (nI (2 ^ j)), .int (nI 0)]) rfl ?_
  have key : ∀ r, r ≤ 5 → ∀ s, REP (EX pr (N 6)) j r 0 s → J l D K (wX h cs) (cp, cap, pr, fo, fb, pn, be, N) 6 [.ref (h 0), .int (nI j), .int (nI s), .int (nI r)] [] := by
    refine up_ind 5 ?_
    intro r hr ih s hF
    refine j_iload_n C d_X_reachable_6 (x := nI r) rfl ?_
    refine j_iconst C d_X_reachable_7 (v := nI 5) (by decide) ?_
    refine j_icmp_ge C d_X_reachable_8 (tgt := 51) (by decide) (tI r (by omega)) (tI 5 (by decide)) (fun c_8 => ?_) (fun c_8 => ?_)
    · obtain rfl : r = 5 := by omega
      refine j_iload_n C d_X_reachable_51 (x := nI s) rfl ?_
      exact hret _ _ _ _ d_X_reachable_52 rfl ⟨rfl, s, rfl, hF.1, REP_end (fun i k q => hA.2 i k q.1 q.2.1 q.2.2) hA.1 hF⟩
    · refine j_iconst C d_X_reachable_11 (v := nI 0) (by decide) ?_
      refine j_istore C d_X_reachable_12 (Nat.le_of_ble_eq_true rfl) (Nat.le_of_ble_eq_true rfl) (L' := [.ref (h 0), .int (nI j), .int (nI s), .int (nI r), .int (nI 0)]) rfl ?_
      refine lp_X_reachable2 C hj hpr hN hsub (r := r) (by omega) (fun s hF => ?_) 0 (by omega) s hF
      refine j_iinc C d_X_reachable_45 (Nat.le_of_ble_eq_true rfl) (x := nI r) (v := nI (r + 1)) rfl (nI_add _ _) (L' := [.ref (h 0), .int (nI j), .int (nI s), .int (nI (r + 1))]) rfl ?_
      refine j_goto C d_X_reachable_48 (tgt := 6) (by decide) ?_
      exact ih (by omega) _ (REP_round hF)
  exact key 0 (by omega) _ (REP_0 hj5)
end
section
/-! ===== the least greatest cost ===== -/
def EN (N : Nat → Nat → Nat) (i j : Nat) : Prop := (N 6 i).testBit j = true
def okc (N : Nat → Nat → Nat) (fo : Int) (fb : Nat) (c : Int) (j t : Nat) : Prop := cnow N fo fb j (t + 1) ≤ c
def GE (N : Nat → Nat → Nat) (fo : Int) (fb : Nat) (rd : Nat → Nat) (G : Nat) (c : Int) : Prop := ∃ T, Good G rd (N 2) (EN N) (okc N fo fb c) T
/-- there is a plan of the jobs g with no cost above c -/
def FE (N : Nat → Nat → Nat) (fo : Int) (fb : Nat) (g : Nat) (c : Int) : Prop := Feas g (N 1) (N 2) (EN N) (okc N fo fb c)
def psum (pd : Nat → Nat) : Nat → Nat
  | 0 => 0
  | n + 1 => psum pd n + sm (pd n) (fun _ => 1)
theorem psum_congr {pd pd' : Nat → Nat} : ∀ {n : Nat}, (∀ i, i < n → pd i = pd' i) → psum pd n = psum pd' n := by
  intro n
  induction n with
  | zero => intro _; rfl
  | succ n ih =>
    intro h
    show _ + _ = _ + _
    rw [ih (fun i hi => h i (by omega)), h n (by omega)]
theorem sm_one {g : Nat} (hg : g < 32) (h0 : g ≠ 0) : 1 ≤ sm g (fun _ => 1) := by
  obtain ⟨i, h1, h2⟩ := bit_ne hg h0
  exact sm_pos (f := fun _ => 1) h1 h2
theorem psum_ge {pd : Nat → Nat} : ∀ {n : Nat}, (∀ i, i < n → pd i < 32 ∧ pd i ≠ 0) → n ≤ psum pd n := by
  intro n
  induction n with
  | zero => intro _; exact Nat.zero_le _
  | succ n ih =>
    intro h
    have a1 := ih (fun i hi => h i (by omega))
    have a2 := sm_one (h n (by omega)).1 (h n (by omega)).2
    show n + 1 ≤ _ + _
    omega
theorem sm_sub {G b : Nat} {f : Nat → Nat} (hG : G < 32) (hb : ∀ j, b.testBit j = true → G.testBit j = true) : sm G f = sm b f + sm (dif G b) f := by
  have key : ∀ j, (if G.testBit j then f j else 0) = (if b.testBit j then f j else 0) + (if (dif G b).testBit j then f j else 0) := by
    intro j
    rw [dif_bit hG]
    have := hb j
    cases h1 : G.testBit j <;> cases h2 : b.testBit j <;> simp_all
  have h0 := key 0
  have h1 := key 1
  have h2 := key 2
  have h3 := key 3
  have h4 := key 4
  unfold sm
  omega
/-- a push of x -/
def PU (n : Nat) (pd : Nat → Nat) (x n1 : Nat) (pd1 : Nat → Nat) : Prop := (x = 0 ∧ n1 = n ∧ pd1 = pd) ∨ (x ≠ 0 ∧ n1 = n + 1 ∧ pd1 = va_up pd n x)
theorem PU_lt {n x n1 : Nat} {pd pd1 : Nat → Nat} (h : PU n pd x n1 pd1) : n ≤ n1 ∧ n1 ≤ n + 1 ∧ ∀ i, i < n → pd1 i = pd i := by
  rcases h with ⟨-, rfl, rfl⟩ | ⟨-, rfl, rfl⟩
  · exact ⟨by omega, by omega, fun i _ => rfl⟩
  · exact ⟨by omega, by omega, fun i hi => va_up_ne _ _ (by omega)⟩
theorem PU_psum {n x n1 : Nat} {pd pd1 : Nat → Nat} (h : PU n pd x n1 pd1) : psum pd1 n1 = psum pd n + sm x (fun _ => 1) := by
  rcases h with ⟨rfl, rfl, rfl⟩ | ⟨-, rfl, rfl⟩
  · rw [sm_zero]; omega
  · show psum _ n + sm (va_up pd n x n) _ = _
    rw [va_up_self, psum_congr (fun i hi => va_up_ne pd x (by omega))]
theorem PU_all {n x n1 : Nat} {pd pd1 : Nat → Nat} {P : Nat → Prop} (h : PU n pd x n1 pd1) (h1 : ∀ i, i < n → P (pd i)) (hx : x ≠ 0 → P x) : ∀ i, i < n1 → P (pd1 i) := by
  intro i hi
  rcases h with ⟨-, rfl, rfl⟩ | ⟨h0, rfl, rfl⟩
  · exact h1 i hi
  · rcases lt_succ_cases hi with q | rfl
    · rw [va_up_ne _ _ (by omega)]; exact h1 i q
    · rw [va_up_self]; exact hx h0
theorem PU_get {n x n1 : Nat} {pd pd1 : Nat → Nat} {P : Nat → Prop} (h : PU n pd x n1 pd1) (h1 : ∀ i, i < n1 → P (pd1 i)) (h0 : P 0) : (∀ i, i < n → P (pd i)) ∧ P x := by
  rcases h with ⟨rfl, rfl, rfl⟩ | ⟨-, rfl, rfl⟩
  · exact ⟨h1, h0⟩
  · refine ⟨fun i hi => ?_, ?_⟩
    · have := h1 i (by omega)
      rwa [va_up_ne _ _ (by omega)] at this
    · have := h1 n (by omega)
      rwa [va_up_self] at this
section LEAST
variable {N : Nat → Nat → Nat} {fo : Int} {fb g : Nat} {rd rk : Nat → Nat}
theorem feas_ge {c : Int} (hN : okN N) (hg : g < 32) (hg0 : g ≠ 0) (hlen : ∀ j, g.testBit j = true → 1 ≤ N 2 j) (h : FE N fo fb g c) : -150 ≤ c := by
  obtain ⟨σ, v, hc⟩ := h
  obtain ⟨j, hj, hb⟩ := bit_ne hg hg0
  have a1 := hlen j hb
  have a2 := hc j hb
  rcases last_or (fun u => σ u = j) 0 34 (Nat.zero_le _) with hn | ⟨t, -, ht, he, -⟩
  · have := cnt_none (σ := σ) (j := j) (Nat.zero_le 34) hn
    have e0 : cnt σ j 0 = 0 := rfl
    omega
  · have a3 : okc N fo fb c (σ t) t := (v t (by rw [he]; exact hj)).2.2.2.1
    have a4 := (cnow_bd (fo := fo) (fb := fb) (t := t + 1) hN (show σ t < 5 by rw [he]; exact hj) (by omega)).1
    unfold okc at a3
    omega
/-- what the loop of leastWorst knows behind r rounds -/
def LWP (N : Nat → Nat → Nat) (fo : Int) (fb g : Nat) (rd : Nat → Nat) (r pn : Nat) (pd : Nat → Nat) (worst : Int) : Prop :=
  (∀ i, i < pn → pd i < 32 ∧ pd i ≠ 0 ∧ ∀ j, (pd i).testBit j = true → g.testBit j = true) ∧ r + psum pd pn ≤ 5 ∧ (-100000 ≤ worst ∧ worst ≤ 100000) ∧ (∀ c, worst ≤ c → (∀ i, i < pn → GE N fo fb rd (pd i) c) → GE N fo fb rd g c) ∧ ∀ c, -100000 ≤ c → FE N fo fb g c → worst ≤ c
theorem LW_0 {pd0 : Nat → Nat} (hg : g < 32) (hg0 : g ≠ 0) : LWP N fo fb g rd 0 1 (va_up pd0 0 g) (-100000) := by
  have e : va_up pd0 0 g 0 = g := va_up_self _ _ _
  refine ⟨fun i hi => ?_, ?_, by omega, fun c _ h => ?_, fun c hc _ => hc⟩
  · have : i = 0 := by omega
    subst this
    rw [e]
    exact ⟨hg, hg0, fun j h => h⟩
  · have := sm_bd (g := g) (f := fun _ => 1) (c := 1) (fun _ _ => Nat.le_refl _)
    show 0 + (0 + sm (va_up pd0 0 g 0) _) ≤ 5
    rw [e]
    omega
  · have := h 0 (by omega)
    rwa [e] at this
theorem LW_pn {r pn : Nat} {pd : Nat → Nat} {worst : Int} (h : LWP N fo fb g rd r pn pd worst) : r + pn ≤ 5 := by
  have := psum_ge (fun i hi => ⟨(h.1 i hi).1, (h.1 i hi).2.1⟩)
  have := h.2.1
  omega
theorem LW_step {r n n1 n2 blk st e q : Nat} {pd pd1 pd2 : Nat → Nat} {worst worst' : Int} (hg : g < 32) (hN : okN N) (hlen : ∀ j, g.testBit j = true → 1 ≤ N 2 j) (hR : RdOK g (N 1) (N 2) (EN N) rd) (h : LWP N fo fb g rd r (n + 1) pd worst) (hF : BlkF rd (N 2) (pd n) blk st e) (he : e ≤ 60) (hq : cand (N 6) blk q) (hqm : ∀ j, cand (N 6) blk j → cnow N fo fb q e ≤ cnow N fo fb j e)
    (hP1 : PU n pd (dif (pd n) blk) n1 pd1) (hP2 : PU n1 pd1 (dif blk (2 ^ q)) n2 pd2) (hw : (worst' = worst ∧ cnow N fo fb q e ≤ worst) ∨ (worst' = cnow N fo fb q e ∧ worst < cnow N fo fb q e)) : LWP N fo fb g rd (r + 1) n2 pd2 worst' := by
  obtain ⟨l1, l2, l3, l4, l5⟩ := h
  obtain ⟨hG32, hG0, hGg⟩ := l1 n (by omega)
  obtain ⟨hB, hBR⟩ := id hF
  obtain ⟨b1, b2, b3, b4, b5, b6, b7⟩ := hB
  have hq5 := lt5_of b1 hq.1
  have hqc := (cand_iff b1).mp hq
  have hcb := cnow_bd (fo := fo) (fb := fb) (t := e) hN hq5 he
  have hw1 : worst ≤ worst' ∧ cnow N fo fb q e ≤ worst' ∧ worst' ≤ 100000 := by rcases hw with ⟨rfl, z⟩ | ⟨rfl, z⟩ <;> omega
  refine ⟨?_, ?_, by omega, fun c hc hall => ?_, fun c hc hFe => ?_⟩
  · refine PU_all (P := fun x => x < 32 ∧ x ≠ 0 ∧ ∀ j, x.testBit j = true → g.testBit j = true) hP2 (PU_all (P := fun x => x < 32 ∧ x ≠ 0 ∧ ∀ j, x.testBit j = true → g.testBit j = true) hP1 (fun i hi => l1 i (by omega)) (fun z => ⟨dif_lt hG32, z, fun j hj => hGg j ((dif_t hG32).mp hj).1⟩)) (fun z => ⟨dif_lt b1, z, fun j hj => hGg j (b2 j ((dif_t b1).mp hj).1)⟩)
  · have a1 := PU_psum hP1
    have a2 := PU_psum hP2
    have a3 := sm_sub (f := fun _ => 1) hG32 b2
    have a4 := sm_split (f := fun _ => 1) b1 hq.1
    have a5 : psum pd (n + 1) = psum pd n + sm (pd n) (fun _ => 1) := rfl
    omega
  · obtain ⟨c1, c2⟩ := PU_get (P := fun x => GE N fo fb rd x c) hP2 hall ⟨0, good_0 0⟩
    obtain ⟨c3, c4⟩ := PU_get (P := fun x => GE N fo fb rd x c) hP1 c1 ⟨0, good_0 0⟩
    refine l4 c (by omega) (fun i hi => ?_)
    rcases lt_succ_cases hi with z | rfl
    · exact c3 i z
    · obtain ⟨T1, g1⟩ := c2
      obtain ⟨T2, g2⟩ := c4
      refine ⟨max T2 e, good_comp hG32 hF hq.1 (fun j hj z => ?_) (fun a b ha hb => hR.2.2.1 a b (hGg a ha) (hGg b hb)) (fun j hj => hlen j (hGg j hj)) (fun t ht => ?_) g1 (good_T g2 (Nat.le_max_left _ _)) (Nat.le_max_right _ _)⟩
      · have := hqc.2 j hj
        unfold EN at z
        rw [this] at z
        cases z
      · have := cnow_mono (fo := fo) (fb := fb) (t := t + 1) (t' := e) hN hq5 (by omega) he
        unfold okc
        omega
  · have a1 := l5 c hc hFe
    obtain ⟨σ, v, hT⟩ := hFe
    obtain ⟨j, t, d1, d2, d3, d4, d5⟩ := blk_low (rd := rd) (B := blk) (st := st) (T := 34) v hg (val_rd hg hR hlen v) (fun j hj => hGg j (b2 j hj)) b1 (blk_ne hF.1) (fun j hj => (b3 j hj).1) hlen hT
    have hj5 := lt5_of b1 d1
    have d6 : okc N fo fb c (σ t) t := (v t (by omega)).2.2.2.1
    rw [d3] at d6
    unfold okc at d6
    have d7 := hqm j ((cand_iff b1).mpr ⟨d1, fun k hk => by
      cases hz : (N 6 j).testBit k
      · rfl
      · exact absurd hz (d5 k hk)⟩)
    have d8 := cnow_mono (fo := fo) (fb := fb) (t := e) (t' := t + 1) hN hj5 (by omega) (by omega)
    rcases hw with ⟨rfl, z⟩ | ⟨rfl, z⟩ <;> omega
theorem LW_end {r : Nat} {pd : Nat → Nat} {worst : Int} (hg : g < 32) (hg0 : g ≠ 0) (hN : okN N) (hlen : ∀ j, g.testBit j = true → 1 ≤ N 2 j) (hR : RdOK g (N 1) (N 2) (EN N) rd) (h : LWP N fo fb g rd r 0 pd worst) : (-150 ≤ worst ∧ worst ≤ 100000) ∧ ∀ c, c < 100000 → (worst ≤ c ↔ FE N fo fb g c) := by
  obtain ⟨l1, l2, l3, l4, l5⟩ := h
  have up : ∀ c, worst ≤ c → FE N fo fb g c := by
    intro c hc
    obtain ⟨T, gd⟩ := l4 c hc (fun i hi => by omega)
    exact good_feas hg hR hlen (fun j hj => (hN j hj).1) (fun j hj => (hN j hj).2.1) gd
  refine ⟨⟨feas_ge hN hg hg0 hlen (up worst (Int.le_refl _)), l3.2⟩, fun c _ => ⟨up c, fun hf => l5 c ?_ hf⟩⟩
  have := feas_ge hN hg hg0 hlen hf
  omega
end LEAST
end
section
theorem nI_sub1 (n : Nat) : nI (n + 1) - nI 1 = nI n := nI_pred n
theorem d_X_leastWorst_0 : decode b_X_leastWorst 0 = .ok (.aload_n 0, 1) := by decide +kernel
theorem d_X_leastWorst_1 : decode b_X_leastWorst 1 = .ok (.iload_n 1, 1) := by decide +kernel
theorem d_X_leastWorst_2 : decode b_X_leastWorst 2 = .ok (.invokevirtual 86, 3) := by decide +kernel
theorem d_X_leastWorst_5 : decode b_X_leastWorst 5 = .ok (.ldc 90, 2) := by decide +kernel
theorem d_X_leastWorst_7 : decode b_X_leastWorst 7 = .ok (.istore_n 2, 1) := by decide +kernel
theorem d_X_leastWorst_8 : decode b_X_leastWorst 8 = .ok (.aload_n 0, 1) := by decide +kernel
theorem d_X_leastWorst_9 : decode b_X_leastWorst 9 = .ok (.getfield 35, 3) := by decide +kernel
theorem d_X_leastWorst_12 : decode b_X_leastWorst 12 = .ok (.iconst 0, 1) := by decide +kernel
theorem d_X_leastWorst_13 : decode b_X_leastWorst 13 = .ok (.iload_n 1, 1) := by decide +kernel
theorem d_X_leastWorst_14 : decode b_X_leastWorst 14 = .ok (.i2b, 1) := by decide +kernel
theorem d_X_leastWorst_15 : decode b_X_leastWorst 15 = .ok (.bastore, 1) := by decide +kernel
theorem d_X_leastWorst_16 : decode b_X_leastWorst 16 = .ok (.aload_n 0, 1) := by decide +kernel
theorem d_X_leastWorst_17 : decode b_X_leastWorst 17 = .ok (.iconst 1, 1) := by decide +kernel
theorem d_X_leastWorst_18 : decode b_X_leastWorst 18 = .ok (.putfield 91, 3) := by decide +kernel
theorem d_X_leastWorst_21 : decode b_X_leastWorst 21 = .ok (.iconst 0, 1) := by decide +kernel
theorem d_X_leastWorst_22 : decode b_X_leastWorst 22 = .ok (.istore_n 3, 1) := by decide +kernel
theorem d_X_leastWorst_23 : decode b_X_leastWorst 23 = .ok (.iload_n 3, 1) := by decide +kernel
theorem d_X_leastWorst_24 : decode b_X_leastWorst 24 = .ok (.bipush 40, 2) := by decide +kernel
theorem d_X_leastWorst_26 : decode b_X_leastWorst 26 = .ok (.if_icmp .ge 104, 3) := by decide +kernel
theorem d_X_leastWorst_29 : decode b_X_leastWorst 29 = .ok (.aload_n 0, 1) := by decide +kernel
theorem d_X_leastWorst_30 : decode b_X_leastWorst 30 = .ok (.getfield 91, 3) := by decide +kernel
theorem d_X_leastWorst_33 : decode b_X_leastWorst 33 = .ok (.ifCond .le 97, 3) := by decide +kernel
theorem d_X_leastWorst_36 : decode b_X_leastWorst 36 = .ok (.aload_n 0, 1) := by decide +kernel
theorem d_X_leastWorst_37 : decode b_X_leastWorst 37 = .ok (.dup, 1) := by decide +kernel
theorem d_X_leastWorst_38 : decode b_X_leastWorst 38 = .ok (.getfield 91, 3) := by decide +kernel
theorem d_X_leastWorst_41 : decode b_X_leastWorst 41 = .ok (.iconst 1, 1) := by decide +kernel
theorem d_X_leastWorst_42 : decode b_X_leastWorst 42 = .ok (.isub, 1) := by decide +kernel
theorem d_X_leastWorst_43 : decode b_X_leastWorst 43 = .ok (.putfield 91, 3) := by decide +kernel
theorem d_X_leastWorst_46 : decode b_X_leastWorst 46 = .ok (.aload_n 0, 1) := by decide +kernel
theorem d_X_leastWorst_47 : decode b_X_leastWorst 47 = .ok (.getfield 35, 3) := by decide +kernel
theorem d_X_leastWorst_50 : decode b_X_leastWorst 50 = .ok (.aload_n 0, 1) := by decide +kernel
theorem d_X_leastWorst_51 : decode b_X_leastWorst 51 = .ok (.getfield 91, 3) := by decide +kernel
theorem d_X_leastWorst_54 : decode b_X_leastWorst 54 = .ok (.baload, 1) := by decide +kernel
theorem d_X_leastWorst_55 : decode b_X_leastWorst 55 = .ok (.istore 4, 2) := by decide +kernel
theorem d_X_leastWorst_57 : decode b_X_leastWorst 57 = .ok (.aload_n 0, 1) := by decide +kernel
theorem d_X_leastWorst_58 : decode b_X_leastWorst 58 = .ok (.iload 4, 2) := by decide +kernel
theorem d_X_leastWorst_60 : decode b_X_leastWorst 60 = .ok (.invokevirtual 94, 3) := by decide +kernel
theorem d_X_leastWorst_63 : decode b_X_leastWorst 63 = .ok (.istore 5, 2) := by decide +kernel
theorem d_X_leastWorst_65 : decode b_X_leastWorst 65 = .ok (.aload_n 0, 1) := by decide +kernel
theorem d_X_leastWorst_66 : decode b_X_leastWorst 66 = .ok (.getfield 97, 3) := by decide +kernel
theorem d_X_leastWorst_69 : decode b_X_leastWorst 69 = .ok (.istore 6, 2) := by decide +kernel
theorem d_X_leastWorst_71 : decode b_X_leastWorst 71 = .ok (.aload_n 0, 1) := by decide +kernel
theorem d_X_leastWorst_72 : decode b_X_leastWorst 72 = .ok (.iload 4, 2) := by decide +kernel
theorem d_X_leastWorst_74 : decode b_X_leastWorst 74 = .ok (.iload 5, 2) := by decide +kernel
theorem d_X_leastWorst_76 : decode b_X_leastWorst 76 = .ok (.iconst (-1), 1) := by decide +kernel
theorem d_X_leastWorst_77 : decode b_X_leastWorst 77 = .ok (.ixor, 1) := by decide +kernel
theorem d_X_leastWorst_78 : decode b_X_leastWorst 78 = .ok (.iand, 1) := by decide +kernel
theorem d_X_leastWorst_79 : decode b_X_leastWorst 79 = .ok (.invokevirtual 100, 3) := by decide +kernel
theorem d_X_leastWorst_82 : decode b_X_leastWorst 82 = .ok (.aload_n 0, 1) := by decide +kernel
theorem d_X_leastWorst_83 : decode b_X_leastWorst 83 = .ok (.iload 5, 2) := by decide +kernel
theorem d_X_leastWorst_85 : decode b_X_leastWorst 85 = .ok (.iload 6, 2) := by decide +kernel
theorem d_X_leastWorst_87 : decode b_X_leastWorst 87 = .ok (.invokevirtual 103, 3) := by decide +kernel
theorem d_X_leastWorst_90 : decode b_X_leastWorst 90 = .ok (.istore 7, 2) := by decide +kernel
theorem d_X_leastWorst_92 : decode b_X_leastWorst 92 = .ok (.aload_n 0, 1) := by decide +kernel
theorem d_X_leastWorst_93 : decode b_X_leastWorst 93 = .ok (.iload 7, 2) := by decide +kernel
theorem d_X_leastWorst_95 : decode b_X_leastWorst 95 = .ok (.iload 6, 2) := by decide +kernel
theorem d_X_leastWorst_97 : decode b_X_leastWorst 97 = .ok (.invokevirtual 106, 3) := by decide +kernel
theorem d_X_leastWorst_100 : decode b_X_leastWorst 100 = .ok (.istore 8, 2) := by decide +kernel
theorem d_X_leastWorst_102 : decode b_X_leastWorst 102 = .ok (.iload 8, 2) := by decide +kernel
theorem d_X_leastWorst_104 : decode b_X_leastWorst 104 = .ok (.iload_n 2, 1) := by decide +kernel
theorem d_X_leastWorst_105 : decode b_X_leastWorst 105 = .ok (.if_icmp .le 6, 3) := by decide +kernel
theorem d_X_leastWorst_108 : decode b_X_leastWorst 108 = .ok (.iload 8, 2) := by decide +kernel
theorem d_X_leastWorst_110 : decode b_X_leastWorst 110 = .ok (.istore_n 2, 1) := by decide +kernel
theorem d_X_leastWorst_111 : decode b_X_leastWorst 111 = .ok (.aload_n 0, 1) := by decide +kernel
theorem d_X_leastWorst_112 : decode b_X_leastWorst 112 = .ok (.iload 5, 2) := by decide +kernel
theorem d_X_leastWorst_114 : decode b_X_leastWorst 114 = .ok (.iconst 1, 1) := by decide +kernel
theorem d_X_leastWorst_115 : decode b_X_leastWorst 115 = .ok (.iload 7, 2) := by decide +kernel
theorem d_X_leastWorst_117 : decode b_X_leastWorst 117 = .ok (.ishl, 1) := by decide +kernel
theorem d_X_leastWorst_118 : decode b_X_leastWorst 118 = .ok (.iconst (-1), 1) := by decide +kernel
theorem d_X_leastWorst_119 : decode b_X_leastWorst 119 = .ok (.ixor, 1) := by decide +kernel
theorem d_X_leastWorst_120 : decode b_X_leastWorst 120 = .ok (.iand, 1) := by decide +kernel
theorem d_X_leastWorst_121 : decode b_X_leastWorst 121 = .ok (.invokevirtual 100, 3) := by decide +kernel
theorem d_X_leastWorst_124 : decode b_X_leastWorst 124 = .ok (.iinc 3 1, 3) := by decide +kernel
theorem d_X_leastWorst_127 : decode b_X_leastWorst 127 = .ok (.goto (-104), 3) := by decide +kernel
theorem d_X_leastWorst_130 : decode b_X_leastWorst 130 = .ok (.iload_n 2, 1) := by decide +kernel
theorem d_X_leastWorst_131 : decode b_X_leastWorst 131 = .ok (.ireturn, 1) := by decide +kernel
theorem push_un {h : Nat → Nat} {cs : Nat → ClassId} {cp : Nat} {cap : Int} {pr : Nat} {fo : Int} {fb pn be : Nat} {N : Nat → Nat → Nat} {rd pd : Nat → Nat} {x : Nat} {u' : SX} (hp : (x = 0 ∧ u' = (cp, cap, pr, fo, fb, pn, be, sc N rd pd)) ∨ (x ≠ 0 ∧ u' = (cp, cap, pr, fo, fb, pn + 1, be, va_up (sc N rd pd) 8 (va_up (sc N rd pd 8) pn x)))) : ∃ n1 pd1, wX h cs (cp, cap, pr, fo, fb, n1, be, sc N rd pd1) = wX h cs u' ∧ PU pn pd x n1 pd1 := by
  rcases hp with ⟨h0, rfl⟩ | ⟨h0, rfl⟩
  · exact ⟨pn, pd, rfl, Or.inl ⟨h0, rfl, rfl⟩⟩
  · exact ⟨pn + 1, va_up pd pn x, rfl, Or.inr ⟨h0, rfl, rfl⟩⟩
set_option maxHeartbeats 4000000 in
set_option maxRecDepth 100000 in
theorem lp_X_leastWorst {l : Launch} {D : va_G} {h : Nat → Nat} {cs : Nat → ClassId} {cp : Nat} {cap : Int} {pr : Nat} {fo : Int} {fb pn be : Nat} {N : Nat → Nat → Nat} {K : Kc} (C : Kok D (tysX cs) K b_X_leastWorst 9 R_X 3) {g : Nat} {rk : Nat → Nat} (hg : g < 32) (hg0 : g ≠ 0) (hN : okN N) (hlen : ∀ j, g.testBit j = true → 1 ≤ N 2 j) (hA : Acy g (N 6) rk) (hfo : -1 ≤ fo ∧ fo < 5) (hfb : fb ≤ 60) {rd : Nat → Nat} (hR : RdOK g (N 1) (N 2) (EN N) rd) (kk : ∀ r worst pn be pd, pn = 0 → LWP N fo fb g rd r pn pd worst → J l D K (wX h cs) (cp, cap, pr, fo, fb, pn, be, sc N rd pd) 130 [.ref (h 0), .int (nI g), .int (iI worst)] []) : ∀ r, r ≤ 5 → ∀ worst pn be pd, LWP N fo fb g rd r pn pd worst → J l D K (wX h cs) (cp, cap, pr, fo, fb, pn, be, sc N rd pd) 23 [.ref (h 0), .int (nI g), .int (iI worst), .int (nI r)] [] := by
  refine up_ind 5 ?_
  intro r hr ih worst pn be pd hF
  have hpn := LW_pn hF
  have hwb := hF.2.2.1
  refine j_iload_n C d_X_leastWorst_23 (x := nI r) rfl ?_
  refine j_bipush C d_X_leastWorst_24 (v := nI 40) (by decide) ?_
  refine j_icmp_ge C d_X_leastWorst_26 (tgt := 130) (by decide) (tI r (by omega)) (tI 40 (by decide)) (fun c_26 => ?_) (fun c_26 => ?_)
  · exact absurd c_26 (by omega)
  · refine j_aload_n C d_X_leastWorst_29 (a := h 0) rfl ?_
    refine x_get C 13 (v := .int (nI pn)) d_X_leastWorst_30 (by decide) fl_X_13 rfl ?_
    refine j_if_le C d_X_leastWorst_33 (tgt := 130) (by decide) (tI pn (by omega)) (fun c_33 => ?_) (fun c_33 => ?_)
    · refine j_take 3 rfl ?_
      exact kk r worst pn be pd (by omega) hF
    · obtain ⟨n, rfl⟩ : ∃ n, pn = n + 1 := ⟨pn - 1, by omega⟩
      obtain ⟨hG32, hG0, hGg⟩ := hF.1 n (by omega)
      refine j_aload_n C d_X_leastWorst_36 (a := h 0) rfl ?_
      refine j_dup C d_X_leastWorst_37 rfl ?_
      refine x_get C 13 (v := .int (nI (n + 1))) d_X_leastWorst_38 (by decide) fl_X_13 rfl ?_
      refine j_iconst C d_X_leastWorst_41 (v := nI 1) (by decide) ?_
      refine j_isub C d_X_leastWorst_42 (z := nI n) (nI_sub1 _) ?_
      refine x_put C 13 (u' := (cp, cap, pr, fo, fb, n, be, sc N rd pd)) d_X_leastWorst_43 (by decide) fl_X_13 rfl rfl rfl ?_
      refine j_aload_n C d_X_leastWorst_46 (a := h 0) rfl ?_
      refine x_get C 12 (v := .ref (h 8)) d_X_leastWorst_47 (by decide) fl_X_12 rfl ?_
      refine j_aload_n C d_X_leastWorst_50 (a := h 0) rfl ?_
      refine x_get C 13 (v := .int (nI n)) d_X_leastWorst_51 (by decide) fl_X_13 rfl ?_
      refine j_bald C 8 7 (f := fun ξ => nI (pd ξ)) (i := n) (v := nI (pd n)) d_X_leastWorst_54 rfl rfl (by omega) (by decide) rfl ?_
      refine j_istore C d_X_leastWorst_55 (Nat.le_of_ble_eq_true rfl) (Nat.le_of_ble_eq_true rfl) (L' := [.ref (h 0), .int (nI g), .int (iI worst), .int (nI r), .int (nI (pd n))]) rfl ?_
      refine j_aload_n C d_X_leastWorst_57 (a := h 0) rfl ?_
      refine j_iload C d_X_leastWorst_58 (x := nI (pd n)) rfl ?_
      refine j_calli C (c_X_firstBlock l D h cs (N := sc N rd pd) hG32 hG0 (fun j hj => Nat.lt_of_le_of_lt (hR.1 j hj) (by decide)) (fun j hj => (hN j hj).2.1) (fun j hj => hlen j (hGg j hj))) (As := [.int (nI (pd n))]) (rest := []) ok_X_firstBlock ml_X_94 (by decide) d_X_leastWorst_60 (q0 := 0) rfl rfl rfl rfl (Nat.le_of_ble_eq_true rfl) ?_
      intro r' u' hp
      obtain ⟨blk, st, e, rfl, rfl, hB⟩ := hp
      have hB : BlkF rd (N 2) (pd n) blk st e := hB
      have hb32 := hB.1.1
      have hb0 := blk_ne hB.1
      obtain ⟨j0, hj0, hj1⟩ := hB.1.2.2.2.2.2.2
      have hst := hR.1 j0 (lt5_of hb32 hj0)
      have hsm := sm_bd (g := blk) (f := N 2) (c := 3) (fun j hj => (hN j hj).2.1)
      have hes := hB.1.2.2.2.1
      have he60 : e ≤ 60 := by omega
      obtain ⟨j1, hj2, hj3⟩ := top_ex hA hg (fun j hj => hGg j (hB.1.2.1 j hj)) hb32 hb0
      refine j_istore C d_X_leastWorst_63 (Nat.le_of_ble_eq_true rfl) (Nat.le_of_ble_eq_true rfl) (L' := [.ref (h 0), .int (nI g), .int (iI worst), .int (nI r), .int (nI (pd n)), .int (nI blk)]) rfl ?_
      refine j_aload_n C d_X_leastWorst_65 (a := h 0) rfl ?_
      refine x_get C 14 (v := .int (nI e)) d_X_leastWorst_66 (by decide) fl_X_14 rfl ?_
      refine j_istore C d_X_leastWorst_69 (Nat.le_of_ble_eq_true rfl) (Nat.le_of_ble_eq_true rfl) (L' := [.ref (h 0), .int (nI g), .int (iI worst), .int (nI r), .int (nI (pd n)), .int (nI blk), .int (nI e)]) rfl ?_
      refine j_aload_n C d_X_leastWorst_71 (a := h 0) rfl ?_
      refine j_iload C d_X_leastWorst_72 (x := nI (pd n)) rfl ?_
      refine j_iload C d_X_leastWorst_74 (x := nI blk) rfl ?_
      refine j_iconst C d_X_leastWorst_76 (v := (-1)) (by decide) ?_
      refine j_ixor C d_X_leastWorst_77 (z := nI blk ^^^ (-1)) (rfl) ?_
      refine j_iand C d_X_leastWorst_78 (z := nI (dif (pd n) blk)) (nI_dif (by omega) (by omega)) ?_
      refine j_callv C (c_X_push l D h cs (N := sc N rd pd) (g := dif (pd n) blk) (dif_lt (by omega)) (by omega)) (As := [.int (nI (dif (pd n) blk))]) (rest := []) ok_X_push ml_X_100 (by decide) d_X_leastWorst_79 (q0 := 0) rfl rfl rfl rfl (Nat.le_of_ble_eq_true rfl) ?_
      intro u' hp
      obtain ⟨n1, pd1, hu1, hP1⟩ := push_un (h := h) (cs := cs) hp
      refine j_same hu1 ?_
      have hPl1 := PU_lt hP1
      refine j_aload_n C d_X_leastWorst_82 (a := h 0) rfl ?_
      refine j_iload C d_X_leastWorst_83 (x := nI blk) rfl ?_
      refine j_iload C d_X_leastWorst_85 (x := nI e) rfl ?_
      refine j_calli C (c_X_cheapestLast l D h cs (N := sc N rd pd1) hN hfo hfb (blk := blk) (e := e) hb32 he60 ⟨j1, (cand_iff hb32).mpr ⟨hj2, hj3⟩⟩) (As := [.int (nI blk), .int (nI e)]) (rest := []) ok_X_cheapestLast ml_X_103 (by decide) d_X_leastWorst_87 (q0 := 0) rfl rfl rfl rfl (Nat.le_of_ble_eq_true rfl) ?_
      intro r' u' hp
      obtain ⟨rfl, q, rfl, hq, hqm⟩ := hp
      have hq : cand (N 6) blk q := hq
      have hqm : ∀ j, cand (N 6) blk j → cnow N fo fb q e ≤ cnow N fo fb j e := hqm
      have hq5 := lt5_of hb32 hq.1
      have hq2 := pow_lt hq5
      have hcb := cnow_bd (fo := fo) (fb := fb) (t := e) hN hq5 he60
      refine j_istore C d_X_leastWorst_90 (Nat.le_of_ble_eq_true rfl) (Nat.le_of_ble_eq_true rfl) (L' := [.ref (h 0), .int (nI g), .int (iI worst), .int (nI r), .int (nI (pd n)), .int (nI blk), .int (nI e), .int (nI q)]) rfl ?_
      refine j_aload_n C d_X_leastWorst_92 (a := h 0) rfl ?_
      refine j_iload C d_X_leastWorst_93 (x := nI q) rfl ?_
      refine j_iload C d_X_leastWorst_95 (x := nI e) rfl ?_
      refine j_calli C (c_X_costNow l D h cs (N := sc N rd pd1) hN hfo hfb (i := q) (t := e) hq5 he60) (As := [.int (nI q), .int (nI e)]) (rest := []) ok_X_costNow ml_X_106 (by decide) d_X_leastWorst_97 (q0 := 0) rfl rfl rfl rfl (Nat.le_of_ble_eq_true rfl) ?_
      intro r' u' hp
      obtain ⟨rfl, hr'⟩ := hp
      have hr' : r' = iI (cnow N fo fb q e) := hr'
      subst hr'
      refine j_istore C d_X_leastWorst_100 (Nat.le_of_ble_eq_true rfl) (Nat.le_of_ble_eq_true rfl) (L' := [.ref (h 0), .int (nI g), .int (iI worst), .int (nI r), .int (nI (pd n)), .int (nI blk), .int (nI e), .int (nI q), .int (iI (cnow N fo fb q e))]) rfl ?_
      refine j_iload C d_X_leastWorst_102 (x := iI (cnow N fo fb q e)) rfl ?_
      refine j_iload_n C d_X_leastWorst_104 (x := iI worst) rfl ?_
      refine j_icmp_le C d_X_leastWorst_105 (tgt := 111) (by decide) (iI_toInt (z := cnow N fo fb q e) (by omega) (by omega)) (iI_toInt (z := worst) (by omega) (by omega)) (fun c_105 => ?_) (fun c_105 => ?_)
      · refine j_aload_n C d_X_leastWorst_111 (a := h 0) rfl ?_
        refine j_iload C d_X_leastWorst_112 (x := nI blk) rfl ?_
        refine j_iconst C d_X_leastWorst_114 (v := nI 1) (by decide) ?_
        refine j_iload C d_X_leastWorst_115 (x := nI q) rfl ?_
        refine j_ishl C d_X_leastWorst_117 (z := nI (2 ^ q)) (nI_shl1 (by omega)) ?_
        refine j_iconst C d_X_leastWorst_118 (v := (-1)) (by decide) ?_
        refine j_ixor C d_X_leastWorst_119 (z := nI (2 ^ q) ^^^ (-1)) (rfl) ?_
        refine j_iand C d_X_leastWorst_120 (z := nI (dif blk (2 ^ q))) (nI_dif (by omega) (by omega)) ?_
        refine j_callv C (c_X_push l D h cs (N := sc N rd pd1) (g := dif blk (2 ^ q)) (dif_lt (by omega)) (by omega)) (As := [.int (nI (dif blk (2 ^ q)))]) (rest := []) ok_X_push ml_X_100 (by decide) d_X_leastWorst_121 (q0 := 0) rfl rfl rfl rfl (Nat.le_of_ble_eq_true rfl) ?_
        intro u' hp
        obtain ⟨n2, pd2, hu2, hP2⟩ := push_un (h := h) (cs := cs) hp
        refine j_same hu2 ?_
        have hPl2 := PU_lt hP2
        refine j_iinc C d_X_leastWorst_124 (Nat.le_of_ble_eq_true rfl) (x := nI r) (v := nI (r + 1)) rfl (nI_add _ _) (L' := [.ref (h 0), .int (nI g), .int (iI worst), .int (nI (r + 1)), .int (nI (pd n)), .int (nI blk), .int (nI e), .int (nI q), .int (iI (cnow N fo fb q e))]) rfl ?_
        refine j_goto C d_X_leastWorst_127 (tgt := 23) (by decide) ?_
        refine j_take 4 rfl ?_
        exact ih (by omega) _ _ _ _ (LW_step hg hN hlen hR hF hB he60 hq hqm hP1 hP2 (by first | exact Or.inl ⟨rfl, by omega⟩ | exact Or.inr ⟨rfl, by omega⟩))
      · refine j_iload C d_X_leastWorst_108 (x := iI (cnow N fo fb q e)) rfl ?_
        refine j_istore_n C d_X_leastWorst_110 (Nat.le_of_ble_eq_true rfl) (Nat.le_of_ble_eq_true rfl) (L' := [.ref (h 0), .int (nI g), .int (iI (cnow N fo fb q e)), .int (nI r), .int (nI (pd n)), .int (nI blk), .int (nI e), .int (nI q), .int (iI (cnow N fo fb q e))]) rfl ?_
        refine j_aload_n C d_X_leastWorst_111 (a := h 0) rfl ?_
        refine j_iload C d_X_leastWorst_112 (x := nI blk) rfl ?_
        refine j_iconst C d_X_leastWorst_114 (v := nI 1) (by decide) ?_
        refine j_iload C d_X_leastWorst_115 (x := nI q) rfl ?_
        refine j_ishl C d_X_leastWorst_117 (z := nI (2 ^ q)) (nI_shl1 (by omega)) ?_
        refine j_iconst C d_X_leastWorst_118 (v := (-1)) (by decide) ?_
        refine j_ixor C d_X_leastWorst_119 (z := nI (2 ^ q) ^^^ (-1)) (rfl) ?_
        refine j_iand C d_X_leastWorst_120 (z := nI (dif blk (2 ^ q))) (nI_dif (by omega) (by omega)) ?_
        refine j_callv C (c_X_push l D h cs (N := sc N rd pd1) (g := dif blk (2 ^ q)) (dif_lt (by omega)) (by omega)) (As := [.int (nI (dif blk (2 ^ q)))]) (rest := []) ok_X_push ml_X_100 (by decide) d_X_leastWorst_121 (q0 := 0) rfl rfl rfl rfl (Nat.le_of_ble_eq_true rfl) ?_
        intro u' hp
        obtain ⟨n2, pd2, hu2, hP2⟩ := push_un (h := h) (cs := cs) hp
        refine j_same hu2 ?_
        have hPl2 := PU_lt hP2
        refine j_iinc C d_X_leastWorst_124 (Nat.le_of_ble_eq_true rfl) (x := nI r) (v := nI (r + 1)) rfl (nI_add _ _) (L' := [.ref (h 0), .int (nI g), .int (iI (cnow N fo fb q e)), .int (nI (r + 1)), .int (nI (pd n)), .int (nI blk), .int (nI e), .int (nI q), .int (iI (cnow N fo fb q e))]) rfl ?_
        refine j_goto C d_X_leastWorst_127 (tgt := 23) (by decide) ?_
        refine j_take 4 rfl ?_
        exact ih (by omega) _ _ _ _ (LW_step hg hN hlen hR hF hB he60 hq hqm hP1 hP2 (by first | exact Or.inl ⟨rfl, by omega⟩ | exact Or.inr ⟨rfl, by omega⟩))
set_option maxHeartbeats 4000000 in
set_option maxRecDepth 100000 in
/-- leastWorst(g) -/
theorem c_X_leastWorst (l : Launch) (D : va_G) (h : Nat → Nat) (cs : Nat → ClassId) {cp : Nat} {cap : Int} {pr : Nat} {fo : Int} {fb pn be : Nat} {N : Nat → Nat → Nat} {g : Nat} {rk : Nat → Nat} (hg : g < 32) (hg0 : g ≠ 0) (hN : okN N) (hlen : ∀ j, g.testBit j = true → 1 ≤ N 2 j) (hA : Acy g (N 6) rk) (hfo : -1 ≤ fo ∧ fo < 5) (hfb : fb ≤ 60) : CI l y_X_leastWorst b_X_leastWorst 9 .int 3 D (tysX cs) (wX h cs) (cp, cap, pr, fo, fb, pn, be, N) [.ref (h 0), .int (nI g)] (fun r u' => ∃ v pn' be' rd pd, r = iI v ∧ u' = (cp, cap, pr, fo, fb, pn', be', sc N rd pd) ∧ (-150 ≤ v ∧ v ≤ 100000) ∧ ∀ c, c < 100000 → (v ≤ c ↔ FE N fo fb g c)) := by
  refine CI_of ok_X_leastWorst (Nat.le_of_ble_eq_true rfl) (cat_all rfl) ?_
  intro K C hret
  have C : Kok D (tysX cs) K b_X_leastWorst 9 R_X 3 := C
  refine j_aload_n C d_X_leastWorst_0 (a := h 0) rfl ?_
  refine j_iload_n C d_X_leastWorst_1 (x := nI g) rfl ?_
  refine j_callv C (c_X_setReady l D h cs (g := g) hg hN hA) (As := [.int (nI g)]) (rest := []) ok_X_setReady ml_X_86 (by decide) d_X_leastWorst_2 (q0 := 0) rfl rfl rfl rfl (Nat.le_of_ble_eq_true rfl) ?_
  intro u' hp
  obtain ⟨rd, rfl, hR⟩ := hp
  have hR : RdOK g (N 1) (N 2) (EN N) rd := hR
  refine j_ldc C d_X_leastWorst_5 kc_X_90 (v := iI (-100000)) (by decide) ?_
  refine j_istore_n C d_X_leastWorst_7 (Nat.le_of_ble_eq_true rfl) (Nat.le_of_ble_eq_true rfl) (L' := [.ref (h 0), .int (nI g), .int (iI (-100000))]) rfl ?_
  refine j_aload_n C d_X_leastWorst_8 (a := h 0) rfl ?_
  refine x_get C 12 (v := .ref (h 8)) d_X_leastWorst_9 (by decide) fl_X_12 rfl ?_
  refine j_iconst C d_X_leastWorst_12 (v := nI 0) (by decide) ?_
  refine j_iload_n C d_X_leastWorst_13 (x := nI g) rfl ?_
  refine j_i2b C d_X_leastWorst_14 (z := nI g) (b_byte (by omega)) ?_
  refine j_bast C 8 7 (g := N 8) (i := 0) (v := g) (u' := (cp, cap, pr, fo, fb, pn, be, va_up (va_up N 7 rd) 8 (va_up (N 8) 0 g))) d_X_leastWorst_15 rfl rfl (by omega) (by decide) (by omega) rfl ?_
  refine j_aload_n C d_X_leastWorst_16 (a := h 0) rfl ?_
  refine j_iconst C d_X_leastWorst_17 (v := nI 1) (by decide) ?_
  refine x_put C 13 (u' := (cp, cap, pr, fo, fb, 1, be, va_up (va_up N 7 rd) 8 (va_up (N 8) 0 g))) d_X_leastWorst_18 (by decide) fl_X_13 rfl rfl rfl ?_
  refine j_iconst C d_X_leastWorst_21 (v := nI 0) (by decide) ?_
  refine j_istore_n C d_X_leastWorst_22 (Nat.le_of_ble_eq_true rfl) (Nat.le_of_ble_eq_true rfl) (L' := [.ref (h 0), .int (nI g), .int (iI (-100000)), .int (nI 0)]) rfl ?_
  refine j_same (u' := (cp, cap, pr, fo, fb, 1, be, sc N rd (va_up (N 8) 0 g))) rfl ?_
  refine lp_X_leastWorst (pn := pn) (be := be) C hg hg0 hN hlen hA hfo hfb hR (fun r worst pn be pd hp0 hF => ?_) 0 (by omega) (-100000) 1 be (va_up (N 8) 0 g) (LW_0 hg hg0)
  subst hp0
  have hE := LW_end hg hg0 hN hlen hR hF
  refine j_iload_n C d_X_leastWorst_130 (x := iI worst) rfl ?_
  exact hret _ _ _ _ d_X_leastWorst_131 rfl ⟨worst, 0, be, rd, pd, rfl, rfl, hE⟩
theorem d_X_withinCap_0 : decode b_X_withinCap 0 = .ok (.aload_n 0, 1) := by decide +kernel
theorem d_X_withinCap_1 : decode b_X_withinCap 1 = .ok (.getfield 56, 3) := by decide +kernel
theorem d_X_withinCap_4 : decode b_X_withinCap 4 = .ok (.ifCond .ne 5, 3) := by decide +kernel
theorem d_X_withinCap_7 : decode b_X_withinCap 7 = .ok (.iconst 1, 1) := by decide +kernel
theorem d_X_withinCap_8 : decode b_X_withinCap 8 = .ok (.ireturn, 1) := by decide +kernel
theorem d_X_withinCap_9 : decode b_X_withinCap 9 = .ok (.aload_n 0, 1) := by decide +kernel
theorem d_X_withinCap_10 : decode b_X_withinCap 10 = .ok (.aload_n 0, 1) := by decide +kernel
theorem d_X_withinCap_11 : decode b_X_withinCap 11 = .ok (.getfield 56, 3) := by decide +kernel
theorem d_X_withinCap_14 : decode b_X_withinCap 14 = .ok (.invokevirtual 83, 3) := by decide +kernel
theorem d_X_withinCap_17 : decode b_X_withinCap 17 = .ok (.istore_n 1, 1) := by decide +kernel
theorem d_X_withinCap_18 : decode b_X_withinCap 18 = .ok (.iload_n 1, 1) := by decide +kernel
theorem d_X_withinCap_19 : decode b_X_withinCap 19 = .ok (.aload_n 0, 1) := by decide +kernel
theorem d_X_withinCap_20 : decode b_X_withinCap 20 = .ok (.getfield 41, 3) := by decide +kernel
theorem d_X_withinCap_23 : decode b_X_withinCap 23 = .ok (.if_icmp .gt 7, 3) := by decide +kernel
theorem d_X_withinCap_26 : decode b_X_withinCap 26 = .ok (.iconst 1, 1) := by decide +kernel
theorem d_X_withinCap_27 : decode b_X_withinCap 27 = .ok (.goto 4, 3) := by decide +kernel
theorem d_X_withinCap_30 : decode b_X_withinCap 30 = .ok (.iconst 0, 1) := by decide +kernel
theorem d_X_withinCap_31 : decode b_X_withinCap 31 = .ok (.ireturn, 1) := by decide +kernel
theorem FE_0 {N : Nat → Nat → Nat} {fo : Int} {fb : Nat} {c : Int} : FE N fo fb 0 c := ⟨fun _ => 5, fun t h => absurd h (Nat.lt_irrefl 5), fun j hj => by simp at hj⟩
theorem FE_z {N : Nat → Nat → Nat} {fo : Int} {fb g : Nat} {c : Int} (h : g = 0) : FE N fo fb g c := by subst h; exact FE_0
theorem sc_self (N : Nat → Nat → Nat) : sc N (N 7) (N 8) = N := by
  funext k
  unfold sc va_up
  by_cases h8 : k = 8
  · rw [if_pos h8, h8]
  · rw [if_neg h8]
    by_cases h7 : k = 7
    · rw [if_pos h7, h7]
    · rw [if_neg h7]
set_option maxHeartbeats 4000000 in
set_option maxRecDepth 100000 in
/-- withinCap() -/
theorem c_X_withinCap (l : Launch) (D : va_G) (h : Nat → Nat) (cs : Nat → ClassId) {cp : Nat} {cap : Int} {pr : Nat} {fo : Int} {fb pn be : Nat} {N : Nat → Nat → Nat} {rk : Nat → Nat} (hpr : pr < 32) (hN : okN N) (hlen : ∀ j, pr.testBit j = true → 1 ≤ N 2 j) (hA : Acy pr (N 6) rk) (hfo : -1 ≤ fo ∧ fo < 5) (hfb : fb ≤ 60) (hcap : -200 ≤ cap ∧ cap ≤ 1000) : CI l y_X_withinCap b_X_withinCap 2 .boolean 4 D (tysX cs) (wX h cs) (cp, cap, pr, fo, fb, pn, be, N) [.ref (h 0)] (fun r u' => ∃ pn' be' rd pd, u' = (cp, cap, pr, fo, fb, pn', be', sc N rd pd) ∧ ((r = nI 1 ∧ FE N fo fb pr cap) ∨ (r = nI 0 ∧ ¬ FE N fo fb pr cap))) := by
  refine CI_of ok_X_withinCap (Nat.le_of_ble_eq_true rfl) (cat_all rfl) ?_
  intro K C hret
  have C : Kok D (tysX cs) K b_X_withinCap 2 R_X 4 := C
  refine j_aload_n C d_X_withinCap_0 (a := h 0) rfl ?_
  refine x_get C 2 (v := .int (nI pr)) d_X_withinCap_1 (by decide) fl_X_2 rfl ?_
  refine j_if_ne C d_X_withinCap_4 (tgt := 9) (by decide) (tI pr (by omega)) (fun c_4 => ?_) (fun c_4 => ?_)
  · refine j_aload_n C d_X_withinCap_9 (a := h 0) rfl ?_
    refine j_aload_n C d_X_withinCap_10 (a := h 0) rfl ?_
    refine x_get C 2 (v := .int (nI pr)) d_X_withinCap_11 (by decide) fl_X_2 rfl ?_
    refine j_calli C (c_X_leastWorst l D h cs (g := pr) hpr (by omega) hN hlen hA hfo hfb) (As := [.int (nI pr)]) (rest := []) ok_X_leastWorst ml_X_83 (by decide) d_X_withinCap_14 (q0 := 0) rfl rfl rfl rfl (Nat.le_of_ble_eq_true rfl) ?_
    intro r u' hp
    obtain ⟨v, pn', be', rd, pd, rfl, rfl, hv, hvc⟩ := hp
    have hvc := hvc cap (by omega)
    refine j_istore_n C d_X_withinCap_17 (Nat.le_of_ble_eq_true rfl) (Nat.le_of_ble_eq_true rfl) (L' := [.ref (h 0), .int (iI v)]) rfl ?_
    refine j_iload_n C d_X_withinCap_18 (x := iI v) rfl ?_
    refine j_aload_n C d_X_withinCap_19 (a := h 0) rfl ?_
    refine x_get C 1 (v := .int (iI cap)) d_X_withinCap_20 (by decide) fl_X_1 rfl ?_
    refine j_icmp_gt C d_X_withinCap_23 (tgt := 30) (by decide) (iI_toInt (z := v) (by omega) (by omega)) (iI_toInt (z := cap) (by omega) (by omega)) (fun c_23 => ?_) (fun c_23 => ?_)
    · refine j_iconst C d_X_withinCap_30 (v := nI 0) (by decide) ?_
      exact hret _ _ _ _ d_X_withinCap_31 rfl ⟨pn', be', rd, pd, rfl, Or.inr ⟨rfl, fun z => by have := hvc.mpr z; omega⟩⟩
    · refine j_iconst C d_X_withinCap_26 (v := nI 1) (by decide) ?_
      refine j_goto C d_X_withinCap_27 (tgt := 31) (by decide) ?_
      exact hret _ _ _ _ d_X_withinCap_31 rfl ⟨pn', be', rd, pd, rfl, Or.inl ⟨rfl, hvc.mp (by omega)⟩⟩
  · refine j_iconst C d_X_withinCap_7 (v := nI 1) (by decide) ?_
    exact hret _ _ _ _ d_X_withinCap_8 rfl ⟨pn, be, N 7, N 8, by rw [sc_self], Or.inl ⟨rfl, FE_z (by omega)⟩⟩
end
section
/-! ===== what the operations do to the planner's arrays ===== -/
def rulN (N : Nat → Nat → Nat) (i k d w : Nat) : Nat → Nat → Nat := va_up (va_up (va_up N 3 (va_up (N 3) i k)) 4 (va_up (N 4) i d)) 5 (va_up (N 5) i w)
def entN (N : Nat → Nat → Nat) (i r p k d : Nat) : Nat → Nat → Nat := rulN (va_up (va_up (va_up N 1 (va_up (N 1) i r)) 2 (va_up (N 2) i p)) 6 (va_up (N 6) i 0)) i k d 1
def folN (N : Nat → Nat → Nat) (i f : Nat) : Nat → Nat → Nat := va_up N 6 (va_up (N 6) i f)
def relN (N : Nat → Nat → Nat) (i r : Nat) : Nat → Nat → Nat := va_up N 1 (va_up (N 1) i r)
theorem up_bd {f : Nat → Nat} {i v c : Nat} (h : ∀ j, j < 5 → f j ≤ c) (hv : v ≤ c) : ∀ j, j < 5 → va_up f i v j ≤ c := by
  intro j hj
  by_cases hc : j = i
  · subst hc; rw [va_up_self]; exact hv
  · rw [va_up_ne _ _ hc]; exact h j hj
theorem okN_mk {N : Nat → Nat → Nat} (h1 : ∀ j, j < 5 → N 1 j ≤ 18) (h2 : ∀ j, j < 5 → N 2 j ≤ 3) (h3 : ∀ j, j < 5 → N 3 j ≤ 3) (h4 : ∀ j, j < 5 → N 4 j ≤ 30) (h5 : ∀ j, j < 5 → N 5 j ≤ 5) (h6 : ∀ j, j < 5 → N 6 j ≤ 31) : okN N :=
  fun j hj => ⟨h1 j hj, h2 j hj, h3 j hj, h4 j hj, h5 j hj, by have := h6 j hj; omega⟩
theorem okN_1 {N : Nat → Nat → Nat} (h : okN N) : ∀ j, j < 5 → N 1 j ≤ 18 := fun j hj => (h j hj).1
theorem okN_2 {N : Nat → Nat → Nat} (h : okN N) : ∀ j, j < 5 → N 2 j ≤ 3 := fun j hj => (h j hj).2.1
theorem okN_3 {N : Nat → Nat → Nat} (h : okN N) : ∀ j, j < 5 → N 3 j ≤ 3 := fun j hj => (h j hj).2.2.1
theorem okN_4 {N : Nat → Nat → Nat} (h : okN N) : ∀ j, j < 5 → N 4 j ≤ 30 := fun j hj => (h j hj).2.2.2.1
theorem okN_5 {N : Nat → Nat → Nat} (h : okN N) : ∀ j, j < 5 → N 5 j ≤ 5 := fun j hj => (h j hj).2.2.2.2.1
theorem okN_6 {N : Nat → Nat → Nat} (h : okN N) : ∀ j, j < 5 → N 6 j ≤ 31 := fun j hj => by have := (h j hj).2.2.2.2.2; omega
theorem okN_rul {N : Nat → Nat → Nat} {i k d w : Nat} (h : okN N) (hk : k ≤ 3) (hd : d ≤ 30) (hw : w ≤ 5) : okN (rulN N i k d w) :=
  okN_mk (N := rulN N i k d w) (okN_1 (N := N) h) (okN_2 (N := N) h) (up_bd (f := N 3) (okN_3 (N := N) h) hk) (up_bd (f := N 4) (okN_4 (N := N) h) hd) (up_bd (f := N 5) (okN_5 (N := N) h) hw) (okN_6 (N := N) h)
theorem okN_ent {N : Nat → Nat → Nat} {i r p k d : Nat} (h : okN N) (hr : r ≤ 18) (hp : p ≤ 3) (hk : k ≤ 3) (hd : d ≤ 30) : okN (entN N i r p k d) :=
  okN_mk (N := entN N i r p k d) (up_bd (f := N 1) (okN_1 (N := N) h) hr) (up_bd (f := N 2) (okN_2 (N := N) h) hp) (up_bd (f := N 3) (okN_3 (N := N) h) hk) (up_bd (f := N 4) (okN_4 (N := N) h) hd) (up_bd (f := N 5) (okN_5 (N := N) h) (by omega)) (up_bd (f := N 6) (okN_6 (N := N) h) (by omega))
theorem okN_fol {N : Nat → Nat → Nat} {i f : Nat} (h : okN N) (hf : f < 32) : okN (folN N i f) :=
  okN_mk (N := folN N i f) (okN_1 (N := N) h) (okN_2 (N := N) h) (okN_3 (N := N) h) (okN_4 (N := N) h) (okN_5 (N := N) h) (up_bd (f := N 6) (okN_6 (N := N) h) (by omega))
theorem okN_rel {N : Nat → Nat → Nat} {i r : Nat} (h : okN N) (hr : r ≤ 18) : okN (relN N i r) :=
  okN_mk (N := relN N i r) (up_bd (f := N 1) (okN_1 (N := N) h) hr) (okN_2 (N := N) h) (okN_3 (N := N) h) (okN_4 (N := N) h) (okN_5 (N := N) h) (okN_6 (N := N) h)
theorem up_same {α : Type} (f : Nat → α) (i : Nat) : va_up f i (f i) = f := by
  funext j
  by_cases h : j = i
  · subst h; exact va_up_self _ _ _
  · exact va_up_ne _ _ h
theorem up_up {α : Type} (f : Nat → α) (i : Nat) (v w : α) : va_up (va_up f i v) i w = va_up f i w := bx_uu f i v w
theorem rul_back (N : Nat → Nat → Nat) (i k d w : Nat) : rulN (rulN N i k d w) i (N 3 i) (N 4 i) (N 5 i) = N := by
  funext q
  have e3 : rulN N i k d w 3 = va_up (N 3) i k := rfl
  have e4 : rulN N i k d w 4 = va_up (N 4) i d := rfl
  have e5 : rulN N i k d w 5 = va_up (N 5) i w := rfl
  unfold rulN at e3 e4 e5 ⊢
  rw [e3, e4, e5, up_up, up_up, up_up, up_same, up_same, up_same]
  unfold va_up
  by_cases h5 : q = 5
  · simp [h5]
  · by_cases h4 : q = 4
    · simp [h4]
    · by_cases h3 : q = 3
      · simp [h3]
      · simp [h5, h4, h3]
theorem fol_back (N : Nat → Nat → Nat) (i f f' : Nat) (h : f' = N 6 i) : folN (folN N i f) i f' = N := by
  subst h
  funext q
  have e6 : folN N i f 6 = va_up (N 6) i f := rfl
  unfold folN at e6 ⊢
  rw [e6, up_up, up_up, up_same, up_same]
theorem rel_back (N : Nat → Nat → Nat) (i r r' : Nat) (h : r' = N 1 i) : relN (relN N i r) i r' = N := by
  subst h
  funext q
  have e6 : relN N i r 1 = va_up (N 1) i r := rfl
  unfold relN at e6 ⊢
  rw [e6, up_up, up_up, up_same, up_same]
/-! the order along the links -/
theorem acy_sub {g g' : Nat} {fol rk : Nat → Nat} (h : Acy g fol rk) (hs : ∀ j, g'.testBit j = true → g.testBit j = true) : Acy g' fol rk := ⟨h.1, fun i j hi hj => h.2 i j (hs i hi) (hs j hj)⟩
theorem acy_fol {g : Nat} {fol fol' rk : Nat → Nat} (h : Acy g fol rk) (hs : ∀ i j, g.testBit i = true → g.testBit j = true → (fol' i).testBit j = true → (fol i).testBit j = true) : Acy g fol' rk := ⟨h.1, fun i j hi hj he => h.2 i j hi hj (hs i j hi hj he)⟩
theorem acy_new {g i : Nat} {fol rk : Nat → Nat} (h : Acy g fol rk) (hsub : ∀ a, g.testBit a = true → ∀ v, (fol a).testBit v = true → g.testBit v = true) (hi : g.testBit i = false) : Acy (g ||| 2 ^ i) (va_up fol i 0) rk := by
  refine ⟨h.1, fun a b ha hb he => ?_⟩
  by_cases hai : a = i
  · subst hai
    rw [va_up_self] at he
    simp at he
  · rw [va_up_ne _ _ hai] at he
    rcases (or_bit _ _ _).mp ha with q | q
    · have hb' := hsub a q b he
      exact h.2 a b q hb' he
    · exact absurd q.symm hai
theorem all31 : ∀ v, v < 5 → Nat.testBit 31 v = true := by decide +kernel
theorem rank5 {g : Nat} {fol : Nat → Nat} (rk : Nat → Nat) (hg : g < 32) (h : ∀ i j, g.testBit i = true → g.testBit j = true → (fol i).testBit j = true → rk i < rk j) : ∃ rk', Acy g fol rk' := by
  refine ⟨fun v => sm 31 (fun u => if rk u < rk v then 1 else 0), fun v hv => ?_, fun i j hi hj he => ?_⟩
  · have a1 := sm_split (b := 31) (l := v) (f := fun u => if rk u < rk v then 1 else 0) (by omega) (all31 v hv)
    have a2 : (if rk v < rk v then 1 else 0) = 0 := if_neg (Nat.lt_irrefl _)
    have a3 : sm (dif 31 (2 ^ v)) (fun u => if rk u < rk v then 1 else 0) ≤ sm (dif 31 (2 ^ v)) (fun _ => 1) := sm_le fun u _ _ => by show (if _ then 1 else 0) ≤ 1; split <;> omega
    have a4 : ∀ v, v < 5 → sm (dif 31 (2 ^ v)) (fun _ => 1) = 4 := by decide +kernel
    have a5 := a4 v hv
    show sm 31 _ < 5
    omega
  · have hlt := h i j hi hj he
    have hi5 := lt5_of hg hi
    have a1 := sm_split (b := 31) (l := i) (f := fun u => if rk u < rk i then 1 else 0) (by omega) (all31 i hi5)
    have a2 := sm_split (b := 31) (l := i) (f := fun u => if rk u < rk j then 1 else 0) (by omega) (all31 i hi5)
    have a3 : (if rk i < rk i then 1 else 0) = 0 := if_neg (Nat.lt_irrefl _)
    have a4 : (if rk i < rk j then 1 else 0) = 1 := if_pos hlt
    have a5 : sm (dif 31 (2 ^ i)) (fun u => if rk u < rk i then 1 else 0) ≤ sm (dif 31 (2 ^ i)) (fun u => if rk u < rk j then 1 else 0) := sm_le fun u _ _ => by
      show (if rk u < rk i then 1 else 0) ≤ (if rk u < rk j then 1 else 0)
      by_cases z : rk u < rk i
      · rw [if_pos z, if_pos (by omega)]; omega
      · rw [if_neg z]; omega
    show sm 31 _ < sm 31 _
    omega
theorem acy_link {g i j : Nat} {fol rk : Nat → Nat} (hg : g < 32) (h : Acy g fol rk) (hi : g.testBit i = true) (hj : g.testBit j = true) (hn : ¬ Rc (EX g fol) j i) : ∃ rk', Acy g (va_up fol i (fol i ||| 2 ^ j)) rk' := by
  have hex : ∀ v, ∃ n, (Rc (EX g fol) j v → n = rk v + 5) ∧ (¬ Rc (EX g fol) j v → n = rk v) := by
    intro v
    by_cases hc : Rc (EX g fol) j v
    · exact ⟨rk v + 5, fun _ => rfl, fun z => absurd hc z⟩
    · exact ⟨rk v, fun z => absurd z hc, fun _ => rfl⟩
  obtain ⟨rk1, hrk⟩ := Classical.axiomOfChoice hex
  refine rank5 rk1 hg fun a b ha hb he => ?_
  have ha5 := lt5_of hg ha
  have hjj : Rc (EX g fol) j j := ⟨0, rfl⟩
  have step : (fol a).testBit b = true → rk1 a < rk1 b := by
    intro he
    have hl := h.2 a b ha hb he
    have hra := h.1 a ha5
    by_cases hca : Rc (EX g fol) j a
    · have hcb : Rc (EX g fol) j b := Rc_step hca ha5 ⟨ha, hb, he⟩
      rw [(hrk a).1 hca, (hrk b).1 hcb]; omega
    · rw [(hrk a).2 hca]
      by_cases hcb : Rc (EX g fol) j b
      · rw [(hrk b).1 hcb]; omega
      · rw [(hrk b).2 hcb]; exact hl
  by_cases hai : a = i
  · subst hai
    rw [va_up_self] at he
    rcases (or_bit _ _ _).mp he with q | rfl
    · exact step q
    · rw [(hrk a).2 hn, (hrk j).1 hjj]
      have := h.1 a ha5
      omega
  · rw [va_up_ne _ _ hai] at he
    exact step he
/-! what the operations answer -/
def EntX (cp : Nat) (cap : Int) (pr : Nat) (fo : Int) (fb : Nat) (N : Nat → Nat → Nat) (rr p k d : Nat) (res : Int32) (pr' : Nat) (N' : Nat → Nat → Nat) : Prop :=
  (res = (-2) ∧ pr' = pr ∧ N' = N ∧ ∀ j, j < cp → pr.testBit j = true) ∨ ∃ i, i < cp ∧ pr.testBit i = false ∧ (∀ j, j < i → pr.testBit j = true) ∧ N' = entN N i rr p k d ∧ ((res = nI i ∧ pr' = pr ||| 2 ^ i ∧ FE N' fo fb (pr ||| 2 ^ i) cap) ∨ (res = (-3) ∧ pr' = pr ∧ ¬ FE N' fo fb (pr ||| 2 ^ i) cap))
theorem or_dif {a i : Nat} (ha : a < 32) (hi : i < 5) (hn : a.testBit i = false) : dif (a ||| 2 ^ i) (2 ^ i) = a := by
  refine bit_ext (dif_lt (or_lt ha (pow_lt hi))) ha fun j hj => ?_
  rw [dif_bit (or_lt ha (pow_lt hi)), Nat.testBit_or, one_bit]
  by_cases hc : i = j
  · subst hc; rw [hn]; simp
  · simp [hc]
def lkd (cp pr : Nat) (fol : Nat → Nat) (x y : Int32) : Prop := ∃ i j, x = nI i ∧ y = nI j ∧ i < cp ∧ j < cp ∧ pr.testBit i = true ∧ pr.testBit j = true ∧ (fol i).testBit j = true
end
section
theorem ent_len {pr i : Nat} {N : Nat → Nat → Nat} {r p k d : Nat} (hlen : ∀ j, pr.testBit j = true → 1 ≤ N 2 j) (hp : 1 ≤ p) : ∀ j, (pr ||| 2 ^ i).testBit j = true → 1 ≤ entN N i r p k d 2 j := by
  intro j hj
  show 1 ≤ va_up (N 2) i p j
  by_cases hc : j = i
  · subst hc; rw [va_up_self]; exact hp
  · rw [va_up_ne _ _ hc]
    rcases (or_bit _ _ _).mp hj with q | q
    · exact hlen j q
    · exact absurd q.symm hc
theorem bool_t {r : Int32} {P : Prop} (hp : (r = nI 1 ∧ P) ∨ (r = nI 0 ∧ ¬ P)) (c : r.toInt ≠ 0) : P := by
  rcases hp with ⟨-, h⟩ | ⟨rfl, -⟩
  · exact h
  · exact absurd (tI 0 (by decide)) c
theorem bool_f {r : Int32} {P : Prop} (hp : (r = nI 1 ∧ P) ∨ (r = nI 0 ∧ ¬ P)) (c : r.toInt = 0) : ¬ P := by
  rcases hp with ⟨rfl, -⟩ | ⟨-, h⟩
  · rw [tI 1 (by decide)] at c; exact absurd c (by decide)
  · exact h
theorem lkd_n {cp pr : Nat} {fol : Nat → Nat} {i j : Nat} (hcp : cp ≤ 5) (hi : i < 5) (hj : j < 5) (h : lkd cp pr fol (nI i) (nI j)) : (fol i).testBit j = true := by
  obtain ⟨a, b, h1, h2, h3, h4, h5, h6, h7⟩ := h
  have := nI_inj (by omega) (by omega) h1
  have := nI_inj (by omega) (by omega) h2
  subst_vars
  exact h7
theorem d_X_jobs_0 : decode b_X_jobs 0 = .ok (.aload_n 0, 1) := by decide +kernel
theorem d_X_jobs_1 : decode b_X_jobs 1 = .ok (.getfield 56, 3) := by decide +kernel
theorem d_X_jobs_4 : decode b_X_jobs 4 = .ok (.ireturn, 1) := by decide +kernel
set_option maxHeartbeats 4000000 in
set_option maxRecDepth 100000 in
theorem c_X_jobs (l : Launch) (D : va_G) (h : Nat → Nat) (cs : Nat → ClassId) {cp : Nat} {cap : Int} {pr : Nat} {fo : Int} {fb pn be : Nat} {N : Nat → Nat → Nat}  : CI l y_X_jobs b_X_jobs 1 .int 0 D (tysX cs) (wX h cs) (cp, cap, pr, fo, fb, pn, be, N) [.ref (h 0)] (fun r u' => u' = (cp, cap, pr, fo, fb, pn, be, N) ∧ r = nI pr) := by
  refine CI_of ok_X_jobs (Nat.le_of_ble_eq_true rfl) (cat_all rfl) ?_
  intro K C hret
  have C : Kok D (tysX cs) K b_X_jobs 1 R_X 0 := C
  refine j_aload_n C d_X_jobs_0 (a := h 0) rfl ?_
  refine x_get C 2 (v := .int (nI pr)) d_X_jobs_1 (by decide) fl_X_2 rfl ?_
  exact hret _ _ _ _ d_X_jobs_4 rfl ⟨rfl, rfl⟩
theorem d_X_linked_0 : decode b_X_linked 0 = .ok (.aload_n 0, 1) := by decide +kernel
theorem d_X_linked_1 : decode b_X_linked 1 = .ok (.iload_n 1, 1) := by decide +kernel
theorem d_X_linked_2 : decode b_X_linked 2 = .ok (.invokevirtual 63, 3) := by decide +kernel
theorem d_X_linked_5 : decode b_X_linked 5 = .ok (.ifCond .eq 28, 3) := by decide +kernel
theorem d_X_linked_8 : decode b_X_linked 8 = .ok (.aload_n 0, 1) := by decide +kernel
theorem d_X_linked_9 : decode b_X_linked 9 = .ok (.iload_n 2, 1) := by decide +kernel
theorem d_X_linked_10 : decode b_X_linked 10 = .ok (.invokevirtual 63, 3) := by decide +kernel
theorem d_X_linked_13 : decode b_X_linked 13 = .ok (.ifCond .eq 20, 3) := by decide +kernel
theorem d_X_linked_16 : decode b_X_linked 16 = .ok (.aload_n 0, 1) := by decide +kernel
theorem d_X_linked_17 : decode b_X_linked 17 = .ok (.getfield 25, 3) := by decide +kernel
theorem d_X_linked_20 : decode b_X_linked 20 = .ok (.iload_n 1, 1) := by decide +kernel
theorem d_X_linked_21 : decode b_X_linked 21 = .ok (.baload, 1) := by decide +kernel
theorem d_X_linked_22 : decode b_X_linked 22 = .ok (.iload_n 2, 1) := by decide +kernel
theorem d_X_linked_23 : decode b_X_linked 23 = .ok (.ishr, 1) := by decide +kernel
theorem d_X_linked_24 : decode b_X_linked 24 = .ok (.iconst 1, 1) := by decide +kernel
theorem d_X_linked_25 : decode b_X_linked 25 = .ok (.iand, 1) := by decide +kernel
theorem d_X_linked_26 : decode b_X_linked 26 = .ok (.ifCond .eq 7, 3) := by decide +kernel
theorem d_X_linked_29 : decode b_X_linked 29 = .ok (.iconst 1, 1) := by decide +kernel
theorem d_X_linked_30 : decode b_X_linked 30 = .ok (.goto 4, 3) := by decide +kernel
theorem d_X_linked_33 : decode b_X_linked 33 = .ok (.iconst 0, 1) := by decide +kernel
theorem d_X_linked_34 : decode b_X_linked 34 = .ok (.ireturn, 1) := by decide +kernel
set_option maxHeartbeats 4000000 in
set_option maxRecDepth 100000 in
/-- linked(x, y) -/
theorem c_X_linked (l : Launch) (D : va_G) (h : Nat → Nat) (cs : Nat → ClassId) {cp : Nat} {cap : Int} {pr : Nat} {fo : Int} {fb pn be : Nat} {N : Nat → Nat → Nat} (hcp : cp ≤ 5) (hpr : pr < 32) (hN : okN N) (x y : Int32) : CI l y_X_linked b_X_linked 3 .boolean 1 D (tysX cs) (wX h cs) (cp, cap, pr, fo, fb, pn, be, N) [.ref (h 0), .int x, .int y] (fun r u' => u' = (cp, cap, pr, fo, fb, pn, be, N) ∧ ((r = nI 1 ∧ lkd cp pr (N 6) x y) ∨ (r = nI 0 ∧ ¬ lkd cp pr (N 6) x y))) := by
  refine CI_of ok_X_linked (Nat.le_of_ble_eq_true rfl) (cat_all rfl) ?_
  intro K C hret
  have C : Kok D (tysX cs) K b_X_linked 3 R_X 1 := C
  refine j_aload_n C d_X_linked_0 (a := h 0) rfl ?_
  refine j_iload_n C d_X_linked_1 (x := x) rfl ?_
  refine j_calli C (c_X_holds l D h cs hcp hpr x) (As := [.int x]) (rest := []) ok_X_holds ml_X_63 (by decide) d_X_linked_2 (q0 := 0) rfl rfl rfl rfl (Nat.le_of_ble_eq_true rfl) ?_
  intro r_2 u' hp
  obtain ⟨rfl, hp_2⟩ := hp
  refine j_if_eq C d_X_linked_5 (tgt := 33) (by decide) (rfl) (fun c_5 => ?_) (fun c_5 => ?_)
  · have t_5 := bool_f hp_2 c_5
    refine j_iconst C d_X_linked_33 (v := nI 0) (by decide) ?_
    exact hret _ _ _ _ d_X_linked_34 rfl ⟨rfl, Or.inr ⟨rfl, fun q => by first | (have := lkd_n hcp (by omega) (by omega) q; rw [b_26] at this; cases this; done) | (obtain ⟨i, j, e1, e2, h1, h2, h3, h4, h5⟩ := q; exact t_13 ⟨j, h2, e2, h4⟩) | (obtain ⟨i, j, e1, e2, h1, h2, h3, h4, h5⟩ := q; exact t_5 ⟨i, h1, e1, h3⟩)⟩⟩
  · have t_5 := bool_t hp_2 c_5
    refine j_aload_n C d_X_linked_8 (a := h 0) rfl ?_
    refine j_iload_n C d_X_linked_9 (x := y) rfl ?_
    refine j_calli C (c_X_holds l D h cs hcp hpr y) (As := [.int y]) (rest := []) ok_X_holds ml_X_63 (by decide) d_X_linked_10 (q0 := 0) rfl rfl rfl rfl (Nat.le_of_ble_eq_true rfl) ?_
    intro r_10 u' hp
    obtain ⟨rfl, hp_10⟩ := hp
    refine j_if_eq C d_X_linked_13 (tgt := 33) (by decide) (rfl) (fun c_13 => ?_) (fun c_13 => ?_)
    · have t_13 := bool_f hp_10 c_13
      refine j_iconst C d_X_linked_33 (v := nI 0) (by decide) ?_
      exact hret _ _ _ _ d_X_linked_34 rfl ⟨rfl, Or.inr ⟨rfl, fun q => by first | (have := lkd_n hcp (by omega) (by omega) q; rw [b_26] at this; cases this; done) | (obtain ⟨i, j, e1, e2, h1, h2, h3, h4, h5⟩ := q; exact t_13 ⟨j, h2, e2, h4⟩) | (obtain ⟨i, j, e1, e2, h1, h2, h3, h4, h5⟩ := q; exact t_5 ⟨i, h1, e1, h3⟩)⟩⟩
    · have t_13 := bool_t hp_10 c_13
      obtain ⟨i, hi, rfl, hbi⟩ := t_5
      obtain ⟨j, hj, rfl, hbj⟩ := t_13
      have h6 := (hN i (by omega)).2.2.2.2.2
      refine j_aload_n C d_X_linked_16 (a := h 0) rfl ?_
      refine x_get C 8 (v := .ref (h 6)) d_X_linked_17 (by decide) fl_X_8 rfl ?_
      refine j_iload_n C d_X_linked_20 (x := nI i) rfl ?_
      refine j_bald C 6 5 (f := fun ξ => nI ((N 6) ξ)) (i := i) (v := nI (N 6 i)) d_X_linked_21 rfl rfl (by omega) (by decide) rfl ?_
      refine j_iload_n C d_X_linked_22 (x := nI j) rfl ?_
      refine j_ishr C d_X_linked_23 (z := nI ((N 6 i) / 2 ^ j)) (nI_shr (by omega) (by omega)) ?_
      refine j_iconst C d_X_linked_24 (v := nI 1) (by decide) ?_
      refine j_iand C d_X_linked_25 (z := nI (tb (N 6 i) j)) (nI_bit (by omega)) ?_
      refine j_if_eq C d_X_linked_26 (tgt := 33) (by decide) (tI _ (tb_lt _ _)) (fun c_26 => ?_) (fun c_26 => ?_)
      · have b_26 : Nat.testBit (N 6 i) j = false := tb_f c_26
        refine j_iconst C d_X_linked_33 (v := nI 0) (by decide) ?_
        exact hret _ _ _ _ d_X_linked_34 rfl ⟨rfl, Or.inr ⟨rfl, fun q => by first | (have := lkd_n hcp (by omega) (by omega) q; rw [b_26] at this; cases this; done) | (obtain ⟨i, j, e1, e2, h1, h2, h3, h4, h5⟩ := q; exact t_13 ⟨j, h2, e2, h4⟩) | (obtain ⟨i, j, e1, e2, h1, h2, h3, h4, h5⟩ := q; exact t_5 ⟨i, h1, e1, h3⟩)⟩⟩
      · have b_26 : Nat.testBit (N 6 i) j = true := tb_t c_26
        refine j_iconst C d_X_linked_29 (v := nI 1) (by decide) ?_
        refine j_goto C d_X_linked_30 (tgt := 34) (by decide) ?_
        exact hret _ _ _ _ d_X_linked_34 rfl ⟨rfl, Or.inl ⟨rfl, i, j, rfl, rfl, hi, hj, hbi, hbj, b_26⟩⟩
theorem d_X_unlink_0 : decode b_X_unlink 0 = .ok (.aload_n 0, 1) := by decide +kernel
theorem d_X_unlink_1 : decode b_X_unlink 1 = .ok (.iload_n 1, 1) := by decide +kernel
theorem d_X_unlink_2 : decode b_X_unlink 2 = .ok (.iload_n 2, 1) := by decide +kernel
theorem d_X_unlink_3 : decode b_X_unlink 3 = .ok (.invokevirtual 67, 3) := by decide +kernel
theorem d_X_unlink_6 : decode b_X_unlink 6 = .ok (.ifCond .ne 5, 3) := by decide +kernel
theorem d_X_unlink_9 : decode b_X_unlink 9 = .ok (.iconst 0, 1) := by decide +kernel
theorem d_X_unlink_10 : decode b_X_unlink 10 = .ok (.ireturn, 1) := by decide +kernel
theorem d_X_unlink_11 : decode b_X_unlink 11 = .ok (.aload_n 0, 1) := by decide +kernel
theorem d_X_unlink_12 : decode b_X_unlink 12 = .ok (.getfield 25, 3) := by decide +kernel
theorem d_X_unlink_15 : decode b_X_unlink 15 = .ok (.iload_n 1, 1) := by decide +kernel
theorem d_X_unlink_16 : decode b_X_unlink 16 = .ok (.aload_n 0, 1) := by decide +kernel
theorem d_X_unlink_17 : decode b_X_unlink 17 = .ok (.getfield 25, 3) := by decide +kernel
theorem d_X_unlink_20 : decode b_X_unlink 20 = .ok (.iload_n 1, 1) := by decide +kernel
theorem d_X_unlink_21 : decode b_X_unlink 21 = .ok (.baload, 1) := by decide +kernel
theorem d_X_unlink_22 : decode b_X_unlink 22 = .ok (.iconst 1, 1) := by decide +kernel
theorem d_X_unlink_23 : decode b_X_unlink 23 = .ok (.iload_n 2, 1) := by decide +kernel
theorem d_X_unlink_24 : decode b_X_unlink 24 = .ok (.ishl, 1) := by decide +kernel
theorem d_X_unlink_25 : decode b_X_unlink 25 = .ok (.iconst (-1), 1) := by decide +kernel
theorem d_X_unlink_26 : decode b_X_unlink 26 = .ok (.ixor, 1) := by decide +kernel
theorem d_X_unlink_27 : decode b_X_unlink 27 = .ok (.iand, 1) := by decide +kernel
theorem d_X_unlink_28 : decode b_X_unlink 28 = .ok (.i2b, 1) := by decide +kernel
theorem d_X_unlink_29 : decode b_X_unlink 29 = .ok (.bastore, 1) := by decide +kernel
theorem d_X_unlink_30 : decode b_X_unlink 30 = .ok (.iconst 1, 1) := by decide +kernel
theorem d_X_unlink_31 : decode b_X_unlink 31 = .ok (.ireturn, 1) := by decide +kernel
set_option maxHeartbeats 4000000 in
set_option maxRecDepth 100000 in
/-- unlink(x, y) -/
theorem c_X_unlink (l : Launch) (D : va_G) (h : Nat → Nat) (cs : Nat → ClassId) {cp : Nat} {cap : Int} {pr : Nat} {fo : Int} {fb pn be : Nat} {N : Nat → Nat → Nat} (hcp : cp ≤ 5) (hpr : pr < 32) (hN : okN N) (x y : Int32) : CI l y_X_unlink b_X_unlink 3 .boolean 2 D (tysX cs) (wX h cs) (cp, cap, pr, fo, fb, pn, be, N) [.ref (h 0), .int x, .int y] (fun r u' => (r = nI 0 ∧ u' = (cp, cap, pr, fo, fb, pn, be, N) ∧ ¬ lkd cp pr (N 6) x y) ∨ ∃ i j, x = nI i ∧ y = nI j ∧ i < cp ∧ j < cp ∧ pr.testBit i = true ∧ pr.testBit j = true ∧ (N 6 i).testBit j = true ∧ r = nI 1 ∧ u' = (cp, cap, pr, fo, fb, pn, be, folN N i (dif (N 6 i) (2 ^ j)))) := by
  refine CI_of ok_X_unlink (Nat.le_of_ble_eq_true rfl) (cat_all rfl) ?_
  intro K C hret
  have C : Kok D (tysX cs) K b_X_unlink 3 R_X 2 := C
  refine j_aload_n C d_X_unlink_0 (a := h 0) rfl ?_
  refine j_iload_n C d_X_unlink_1 (x := x) rfl ?_
  refine j_iload_n C d_X_unlink_2 (x := y) rfl ?_
  refine j_calli C (c_X_linked l D h cs hcp hpr hN x y) (As := [.int x, .int y]) (rest := []) ok_X_linked ml_X_67 (by decide) d_X_unlink_3 (q0 := 0) rfl rfl rfl rfl (Nat.le_of_ble_eq_true rfl) ?_
  intro r_3 u' hp
  obtain ⟨rfl, hp_3⟩ := hp
  refine j_if_ne C d_X_unlink_6 (tgt := 11) (by decide) (rfl) (fun c_6 => ?_) (fun c_6 => ?_)
  · have t_6 := bool_t hp_3 c_6
    obtain ⟨i, j, rfl, rfl, hi, hj, hbi, hbj, hbit⟩ := t_6
    have h6 := (hN i (by omega)).2.2.2.2.2
    have hp2 := pow_lt (show j < 5 by omega)
    have hdl := dif_lt (b := 2 ^ j) h6
    refine j_aload_n C d_X_unlink_11 (a := h 0) rfl ?_
    refine x_get C 8 (v := .ref (h 6)) d_X_unlink_12 (by decide) fl_X_8 rfl ?_
    refine j_iload_n C d_X_unlink_15 (x := nI i) rfl ?_
    refine j_aload_n C d_X_unlink_16 (a := h 0) rfl ?_
    refine x_get C 8 (v := .ref (h 6)) d_X_unlink_17 (by decide) fl_X_8 rfl ?_
    refine j_iload_n C d_X_unlink_20 (x := nI i) rfl ?_
    refine j_bald C 6 5 (f := fun ξ => nI ((N 6) ξ)) (i := i) (v := nI (N 6 i)) d_X_unlink_21 rfl rfl (by omega) (by decide) rfl ?_
    refine j_iconst C d_X_unlink_22 (v := nI 1) (by decide) ?_
    refine j_iload_n C d_X_unlink_23 (x := nI j) rfl ?_
    refine j_ishl C d_X_unlink_24 (z := nI (2 ^ j)) (nI_shl1 (by omega)) ?_
    refine j_iconst C d_X_unlink_25 (v := (-1)) (by decide) ?_
    refine j_ixor C d_X_unlink_26 (z := nI (2 ^ j) ^^^ (-1)) (rfl) ?_
    refine j_iand C d_X_unlink_27 (z := nI (dif (N 6 i) (2 ^ j))) (nI_dif (by omega) (by omega)) ?_
    refine j_i2b C d_X_unlink_28 (z := nI (dif (N 6 i) (2 ^ j))) (b_byte (by omega)) ?_
    refine j_bast C 6 5 (g := N 6) (i := i) (v := dif (N 6 i) (2 ^ j)) (u' := (cp, cap, pr, fo, fb, pn, be, va_up N 6 (va_up (N 6) i (dif (N 6 i) (2 ^ j))))) d_X_unlink_29 rfl rfl (by omega) (by decide) (by omega) rfl ?_
    refine j_iconst C d_X_unlink_30 (v := nI 1) (by decide) ?_
    exact hret _ _ _ _ d_X_unlink_31 rfl (Or.inr ⟨i, j, rfl, rfl, hi, hj, hbi, hbj, hbit, rfl, rfl⟩)
  · have t_6 := bool_f hp_3 c_6
    refine j_iconst C d_X_unlink_9 (v := nI 0) (by decide) ?_
    exact hret _ _ _ _ d_X_unlink_10 rfl (Or.inl ⟨rfl, rfl, t_6⟩)
theorem d_X_costAt_0 : decode b_X_costAt 0 = .ok (.aload_n 0, 1) := by decide +kernel
theorem d_X_costAt_1 : decode b_X_costAt 1 = .ok (.iload_n 1, 1) := by decide +kernel
theorem d_X_costAt_2 : decode b_X_costAt 2 = .ok (.invokevirtual 63, 3) := by decide +kernel
theorem d_X_costAt_5 : decode b_X_costAt 5 = .ok (.ifCond .eq 13, 3) := by decide +kernel
theorem d_X_costAt_8 : decode b_X_costAt 8 = .ok (.iload_n 2, 1) := by decide +kernel
theorem d_X_costAt_9 : decode b_X_costAt 9 = .ok (.ifCond .lt 9, 3) := by decide +kernel
theorem d_X_costAt_12 : decode b_X_costAt 12 = .ok (.iload_n 2, 1) := by decide +kernel
theorem d_X_costAt_13 : decode b_X_costAt 13 = .ok (.bipush 60, 2) := by decide +kernel
theorem d_X_costAt_15 : decode b_X_costAt 15 = .ok (.if_icmp .le 7, 3) := by decide +kernel
theorem d_X_costAt_18 : decode b_X_costAt 18 = .ok (.sipush (-2000), 3) := by decide +kernel
theorem d_X_costAt_21 : decode b_X_costAt 21 = .ok (.ireturn, 1) := by decide +kernel
theorem d_X_costAt_22 : decode b_X_costAt 22 = .ok (.aload_n 0, 1) := by decide +kernel
theorem d_X_costAt_23 : decode b_X_costAt 23 = .ok (.iload_n 1, 1) := by decide +kernel
theorem d_X_costAt_24 : decode b_X_costAt 24 = .ok (.iload_n 2, 1) := by decide +kernel
theorem d_X_costAt_25 : decode b_X_costAt 25 = .ok (.invokevirtual 75, 3) := by decide +kernel
theorem d_X_costAt_28 : decode b_X_costAt 28 = .ok (.ireturn, 1) := by decide +kernel
set_option maxHeartbeats 4000000 in
set_option maxRecDepth 100000 in
/-- costAt(x, y) -/
theorem c_X_costAt (l : Launch) (D : va_G) (h : Nat → Nat) (cs : Nat → ClassId) {cp : Nat} {cap : Int} {pr : Nat} {fo : Int} {fb pn be : Nat} {N : Nat → Nat → Nat} (hcp : cp ≤ 5) (hpr : pr < 32) (hN : okN N) (x y : Int32) : CI l y_X_costAt b_X_costAt 3 .int 1 D (tysX cs) (wX h cs) (cp, cap, pr, fo, fb, pn, be, N) [.ref (h 0), .int x, .int y] (fun r u' => u' = (cp, cap, pr, fo, fb, pn, be, N) ∧ ((r = (-2000) ∧ ¬ (hld cp pr x ∧ 0 ≤ y.toInt ∧ y.toInt ≤ 60)) ∨ ∃ i t, x = nI i ∧ y = nI t ∧ i < cp ∧ pr.testBit i = true ∧ t ≤ 60 ∧ r = iI (cst (N 3 i) (N 4 i) (N 5 i) t))) := by
  refine CI_of ok_X_costAt (Nat.le_of_ble_eq_true rfl) (cat_all rfl) ?_
  intro K C hret
  have C : Kok D (tysX cs) K b_X_costAt 3 R_X 1 := C
  refine j_aload_n C d_X_costAt_0 (a := h 0) rfl ?_
  refine j_iload_n C d_X_costAt_1 (x := x) rfl ?_
  refine j_calli C (c_X_holds l D h cs hcp hpr x) (As := [.int x]) (rest := []) ok_X_holds ml_X_63 (by decide) d_X_costAt_2 (q0 := 0) rfl rfl rfl rfl (Nat.le_of_ble_eq_true rfl) ?_
  intro r_2 u' hp
  obtain ⟨rfl, hp_2⟩ := hp
  refine j_if_eq C d_X_costAt_5 (tgt := 18) (by decide) (rfl) (fun c_5 => ?_) (fun c_5 => ?_)
  · have t_5 := bool_f hp_2 c_5
    refine j_sipush C d_X_costAt_18 (v := (-2000)) (by decide) ?_
    exact hret _ _ _ _ d_X_costAt_21 rfl ⟨rfl, Or.inl ⟨rfl, fun q => by first | exact t_5 q.1 | omega⟩⟩
  · have t_5 := bool_t hp_2 c_5
    refine j_iload_n C d_X_costAt_8 (x := y) rfl ?_
    refine j_if_lt C d_X_costAt_9 (tgt := 18) (by decide) (rfl) (fun c_9 => ?_) (fun c_9 => ?_)
    · refine j_sipush C d_X_costAt_18 (v := (-2000)) (by decide) ?_
      exact hret _ _ _ _ d_X_costAt_21 rfl ⟨rfl, Or.inl ⟨rfl, fun q => by first | exact t_5 q.1 | omega⟩⟩
    · refine j_iload_n C d_X_costAt_12 (x := y) rfl ?_
      refine j_bipush C d_X_costAt_13 (v := nI 60) (by decide) ?_
      refine j_icmp_le C d_X_costAt_15 (tgt := 22) (by decide) (rfl) (tI 60 (by decide)) (fun c_15 => ?_) (fun c_15 => ?_)
      · have hx := t_5
        obtain ⟨i, hi, rfl, hbi⟩ := t_5
        obtain ⟨t, ht, rfl⟩ := of_rng (n := 61) c_9 (by omega)
        refine j_aload_n C d_X_costAt_22 (a := h 0) rfl ?_
        refine j_iload_n C d_X_costAt_23 (x := nI i) rfl ?_
        refine j_iload_n C d_X_costAt_24 (x := nI t) rfl ?_
        refine j_calli C (c_X_ruled l D h cs hN (i := i) (t := t) (by omega) (by omega)) (As := [.int (nI i), .int (nI t)]) (rest := []) ok_X_ruled ml_X_75 (by decide) d_X_costAt_25 (q0 := 0) rfl rfl rfl rfl (Nat.le_of_ble_eq_true rfl) ?_
        intro r u' hp
        obtain ⟨rfl, rfl⟩ := hp
        exact hret _ _ _ _ d_X_costAt_28 rfl ⟨rfl, Or.inr ⟨i, t, rfl, rfl, hi, hbi, by omega, rfl⟩⟩
      · refine j_sipush C d_X_costAt_18 (v := (-2000)) (by decide) ?_
        exact hret _ _ _ _ d_X_costAt_21 rfl ⟨rfl, Or.inl ⟨rfl, fun q => by first | exact t_5 q.1 | omega⟩⟩
theorem d_X_enter_0 : decode b_X_enter 0 = .ok (.aload_n 0, 1) := by decide +kernel
theorem d_X_enter_1 : decode b_X_enter 1 = .ok (.invokevirtual 48, 3) := by decide +kernel
theorem d_X_enter_4 : decode b_X_enter 4 = .ok (.istore 5, 2) := by decide +kernel
theorem d_X_enter_6 : decode b_X_enter 6 = .ok (.iload 5, 2) := by decide +kernel
theorem d_X_enter_8 : decode b_X_enter 8 = .ok (.ifCond .ge 6, 3) := by decide +kernel
theorem d_X_enter_11 : decode b_X_enter 11 = .ok (.bipush (-2), 2) := by decide +kernel
theorem d_X_enter_13 : decode b_X_enter 13 = .ok (.ireturn, 1) := by decide +kernel
theorem d_X_enter_14 : decode b_X_enter 14 = .ok (.aload_n 0, 1) := by decide +kernel
theorem d_X_enter_15 : decode b_X_enter 15 = .ok (.getfield 7, 3) := by decide +kernel
theorem d_X_enter_18 : decode b_X_enter 18 = .ok (.iload 5, 2) := by decide +kernel
theorem d_X_enter_20 : decode b_X_enter 20 = .ok (.iload_n 1, 1) := by decide +kernel
theorem d_X_enter_21 : decode b_X_enter 21 = .ok (.i2b, 1) := by decide +kernel
theorem d_X_enter_22 : decode b_X_enter 22 = .ok (.bastore, 1) := by decide +kernel
theorem d_X_enter_23 : decode b_X_enter 23 = .ok (.aload_n 0, 1) := by decide +kernel
theorem d_X_enter_24 : decode b_X_enter 24 = .ok (.getfield 13, 3) := by decide +kernel
theorem d_X_enter_27 : decode b_X_enter 27 = .ok (.iload 5, 2) := by decide +kernel
theorem d_X_enter_29 : decode b_X_enter 29 = .ok (.iload_n 2, 1) := by decide +kernel
theorem d_X_enter_30 : decode b_X_enter 30 = .ok (.i2b, 1) := by decide +kernel
theorem d_X_enter_31 : decode b_X_enter 31 = .ok (.bastore, 1) := by decide +kernel
theorem d_X_enter_32 : decode b_X_enter 32 = .ok (.aload_n 0, 1) := by decide +kernel
theorem d_X_enter_33 : decode b_X_enter 33 = .ok (.getfield 25, 3) := by decide +kernel
theorem d_X_enter_36 : decode b_X_enter 36 = .ok (.iload 5, 2) := by decide +kernel
theorem d_X_enter_38 : decode b_X_enter 38 = .ok (.iconst 0, 1) := by decide +kernel
theorem d_X_enter_39 : decode b_X_enter 39 = .ok (.bastore, 1) := by decide +kernel
theorem d_X_enter_40 : decode b_X_enter 40 = .ok (.aload_n 0, 1) := by decide +kernel
theorem d_X_enter_41 : decode b_X_enter 41 = .ok (.iload 5, 2) := by decide +kernel
theorem d_X_enter_43 : decode b_X_enter 43 = .ok (.iload_n 3, 1) := by decide +kernel
theorem d_X_enter_44 : decode b_X_enter 44 = .ok (.iload 4, 2) := by decide +kernel
theorem d_X_enter_46 : decode b_X_enter 46 = .ok (.iconst 1, 1) := by decide +kernel
theorem d_X_enter_47 : decode b_X_enter 47 = .ok (.invokevirtual 52, 3) := by decide +kernel
theorem d_X_enter_50 : decode b_X_enter 50 = .ok (.aload_n 0, 1) := by decide +kernel
theorem d_X_enter_51 : decode b_X_enter 51 = .ok (.dup, 1) := by decide +kernel
theorem d_X_enter_52 : decode b_X_enter 52 = .ok (.getfield 56, 3) := by decide +kernel
theorem d_X_enter_55 : decode b_X_enter 55 = .ok (.iconst 1, 1) := by decide +kernel
theorem d_X_enter_56 : decode b_X_enter 56 = .ok (.iload 5, 2) := by decide +kernel
theorem d_X_enter_58 : decode b_X_enter 58 = .ok (.ishl, 1) := by decide +kernel
theorem d_X_enter_59 : decode b_X_enter 59 = .ok (.ior, 1) := by decide +kernel
theorem d_X_enter_60 : decode b_X_enter 60 = .ok (.putfield 56, 3) := by decide +kernel
theorem d_X_enter_63 : decode b_X_enter 63 = .ok (.aload_n 0, 1) := by decide +kernel
theorem d_X_enter_64 : decode b_X_enter 64 = .ok (.invokevirtual 59, 3) := by decide +kernel
theorem d_X_enter_67 : decode b_X_enter 67 = .ok (.ifCond .eq 6, 3) := by decide +kernel
theorem d_X_enter_70 : decode b_X_enter 70 = .ok (.iload 5, 2) := by decide +kernel
theorem d_X_enter_72 : decode b_X_enter 72 = .ok (.ireturn, 1) := by decide +kernel
theorem d_X_enter_73 : decode b_X_enter 73 = .ok (.aload_n 0, 1) := by decide +kernel
theorem d_X_enter_74 : decode b_X_enter 74 = .ok (.dup, 1) := by decide +kernel
theorem d_X_enter_75 : decode b_X_enter 75 = .ok (.getfield 56, 3) := by decide +kernel
theorem d_X_enter_78 : decode b_X_enter 78 = .ok (.iconst 1, 1) := by decide +kernel
theorem d_X_enter_79 : decode b_X_enter 79 = .ok (.iload 5, 2) := by decide +kernel
theorem d_X_enter_81 : decode b_X_enter 81 = .ok (.ishl, 1) := by decide +kernel
theorem d_X_enter_82 : decode b_X_enter 82 = .ok (.iconst (-1), 1) := by decide +kernel
theorem d_X_enter_83 : decode b_X_enter 83 = .ok (.ixor, 1) := by decide +kernel
theorem d_X_enter_84 : decode b_X_enter 84 = .ok (.iand, 1) := by decide +kernel
theorem d_X_enter_85 : decode b_X_enter 85 = .ok (.putfield 56, 3) := by decide +kernel
theorem d_X_enter_88 : decode b_X_enter 88 = .ok (.bipush (-3), 2) := by decide +kernel
theorem d_X_enter_90 : decode b_X_enter 90 = .ok (.ireturn, 1) := by decide +kernel
set_option maxHeartbeats 4000000 in
set_option maxRecDepth 100000 in
/-- enter(r, p, k, d) -/
theorem c_X_enter (l : Launch) (D : va_G) (h : Nat → Nat) (cs : Nat → ClassId) {cp : Nat} {cap : Int} {pr : Nat} {fo : Int} {fb pn be : Nat} {N : Nat → Nat → Nat} {rk : Nat → Nat} (hcp : cp ≤ 5) (hpr : pr < 32) (hN : okN N) (hlen : ∀ j, pr.testBit j = true → 1 ≤ N 2 j) (hA : Acy pr (N 6) rk) (hfo : -1 ≤ fo ∧ fo < 5) (hfb : fb ≤ 60) (hcap : -200 ≤ cap ∧ cap ≤ 1000) (hsub : ∀ a, pr.testBit a = true → ∀ v, (N 6 a).testBit v = true → pr.testBit v = true) {r p k dd : Nat} (hr : r ≤ 18) (hp1 : 1 ≤ p) (hp3 : p ≤ 3) (hk : k ≤ 3) (hdd : dd ≤ 30) : CI l y_X_enter b_X_enter 6 .int 5 D (tysX cs) (wX h cs) (cp, cap, pr, fo, fb, pn, be, N) [.ref (h 0), .int (nI r), .int (nI p), .int (nI k), .int (nI dd)] (fun res u' => ∃ pr' N' pn' be' rd pd, u' = (cp, cap, pr', fo, fb, pn', be', sc N' rd pd) ∧ EntX cp cap pr fo fb N r p k dd res pr' N') := by
  refine CI_of ok_X_enter (Nat.le_of_ble_eq_true rfl) (cat_all rfl) ?_
  intro K C hret
  have C : Kok D (tysX cs) K b_X_enter 6 R_X 5 := C
  refine j_aload_n C d_X_enter_0 (a := h 0) rfl ?_
  refine j_calli C (c_X_freeNumber l D h cs hcp hpr) (As := []) (rest := []) ok_X_freeNumber ml_X_48 (by decide) d_X_enter_1 (q0 := 0) rfl rfl rfl rfl (Nat.le_of_ble_eq_true rfl) ?_
  intro fr u' hq
  obtain ⟨rfl, hq⟩ := hq
  refine j_istore C d_X_enter_4 (Nat.le_of_ble_eq_true rfl) (Nat.le_of_ble_eq_true rfl) (L' := [.ref (h 0), .int (nI r), .int (nI p), .int (nI k), .int (nI dd), .int fr]) rfl ?_
  refine j_iload C d_X_enter_6 (x := fr) rfl ?_
  refine j_if_ge C d_X_enter_8 (tgt := 14) (by decide) (rfl) (fun c_8 => ?_) (fun c_8 => ?_)
  · obtain ⟨i, rfl, hi, hbi, hbl⟩ := hq.resolve_left (fun z => by rw [z.1] at c_8; exact absurd c_8 (by decide))
    have hp2 := pow_lt (show i < 5 by omega)
    have hor := or_lt hpr hp2
    refine j_aload_n C d_X_enter_14 (a := h 0) rfl ?_
    refine x_get C 3 (v := .ref (h 1)) d_X_enter_15 (by decide) fl_X_3 rfl ?_
    refine j_iload C d_X_enter_18 (x := nI i) rfl ?_
    refine j_iload_n C d_X_enter_20 (x := nI r) rfl ?_
    refine j_i2b C d_X_enter_21 (z := nI r) (b_byte (by omega)) ?_
    refine j_bast C 1 0 (g := N 1) (i := i) (v := r) (u' := (cp, cap, pr, fo, fb, pn, be, va_up N 1 (va_up (N 1) i r))) d_X_enter_22 rfl rfl (by omega) (by decide) (by omega) rfl ?_
    refine j_aload_n C d_X_enter_23 (a := h 0) rfl ?_
    refine x_get C 4 (v := .ref (h 2)) d_X_enter_24 (by decide) fl_X_4 rfl ?_
    refine j_iload C d_X_enter_27 (x := nI i) rfl ?_
    refine j_iload_n C d_X_enter_29 (x := nI p) rfl ?_
    refine j_i2b C d_X_enter_30 (z := nI p) (b_byte (by omega)) ?_
    refine j_bast C 2 1 (g := N 2) (i := i) (v := p) (u' := (cp, cap, pr, fo, fb, pn, be, va_up (va_up N 1 (va_up (N 1) i r)) 2 (va_up (N 2) i p))) d_X_enter_31 rfl rfl (by omega) (by decide) (by omega) rfl ?_
    refine j_aload_n C d_X_enter_32 (a := h 0) rfl ?_
    refine x_get C 8 (v := .ref (h 6)) d_X_enter_33 (by decide) fl_X_8 rfl ?_
    refine j_iload C d_X_enter_36 (x := nI i) rfl ?_
    refine j_iconst C d_X_enter_38 (v := nI 0) (by decide) ?_
    refine j_bast C 6 5 (g := N 6) (i := i) (v := 0) (u' := (cp, cap, pr, fo, fb, pn, be, va_up (va_up (va_up N 1 (va_up (N 1) i r)) 2 (va_up (N 2) i p)) 6 (va_up (N 6) i 0))) d_X_enter_39 rfl rfl (by omega) (by decide) (by omega) rfl ?_
    refine j_aload_n C d_X_enter_40 (a := h 0) rfl ?_
    refine j_iload C d_X_enter_41 (x := nI i) rfl ?_
    refine j_iload_n C d_X_enter_43 (x := nI k) rfl ?_
    refine j_iload C d_X_enter_44 (x := nI dd) rfl ?_
    refine j_iconst C d_X_enter_46 (v := nI 1) (by decide) ?_
    refine j_callv C (c_X_rule l D h cs (i := i) (k := k) (dd := dd) (ww := 1) (by omega) (by omega) (by omega) (by omega)) (As := [.int (nI i), .int (nI k), .int (nI dd), .int (nI 1)]) (rest := []) ok_X_rule ml_X_52 (by decide) d_X_enter_47 (q0 := 0) rfl rfl rfl rfl (Nat.le_of_ble_eq_true rfl) ?_
    intro u' hq2
    subst hq2
    refine j_same (u' := (cp, cap, pr, fo, fb, pn, be, entN N i r p k dd)) rfl ?_
    refine j_aload_n C d_X_enter_50 (a := h 0) rfl ?_
    refine j_dup C d_X_enter_51 rfl ?_
    refine x_get C 2 (v := .int (nI pr)) d_X_enter_52 (by decide) fl_X_2 rfl ?_
    refine j_iconst C d_X_enter_55 (v := nI 1) (by decide) ?_
    refine j_iload C d_X_enter_56 (x := nI i) rfl ?_
    refine j_ishl C d_X_enter_58 (z := nI (2 ^ i)) (nI_shl1 (by omega)) ?_
    refine j_ior C d_X_enter_59 (z := nI (pr ||| (2 ^ i))) (nI_or _ _) ?_
    refine x_put C 2 (u' := (cp, cap, pr ||| (2 ^ i), fo, fb, pn, be, entN N i r p k dd)) d_X_enter_60 (by decide) fl_X_2 rfl rfl rfl ?_
    refine j_aload_n C d_X_enter_63 (a := h 0) rfl ?_
    refine j_calli C (c_X_withinCap l D h cs (pr := pr ||| 2 ^ i) (N := entN N i r p k dd) (rk := rk) hor (okN_ent hN hr hp3 hk hdd) (fun j hj => ent_len hlen hp1 j hj) (acy_new hA hsub hbi) hfo hfb hcap) (As := []) (rest := []) ok_X_withinCap ml_X_59 (by decide) d_X_enter_64 (q0 := 0) rfl rfl rfl rfl (Nat.le_of_ble_eq_true rfl) ?_
    intro r_64 u' hq3
    obtain ⟨pn', be', rd, pd, rfl, hp_64⟩ := hq3
    refine j_if_eq C d_X_enter_67 (tgt := 73) (by decide) (rfl) (fun c_67 => ?_) (fun c_67 => ?_)
    · have t_67 := bool_f hp_64 c_67
      refine j_aload_n C d_X_enter_73 (a := h 0) rfl ?_
      refine j_dup C d_X_enter_74 rfl ?_
      refine x_get C 2 (v := .int (nI (pr ||| (2 ^ i)))) d_X_enter_75 (by decide) fl_X_2 rfl ?_
      refine j_iconst C d_X_enter_78 (v := nI 1) (by decide) ?_
      refine j_iload C d_X_enter_79 (x := nI i) rfl ?_
      refine j_ishl C d_X_enter_81 (z := nI (2 ^ i)) (nI_shl1 (by omega)) ?_
      refine j_iconst C d_X_enter_82 (v := (-1)) (by decide) ?_
      refine j_ixor C d_X_enter_83 (z := nI (2 ^ i) ^^^ (-1)) (rfl) ?_
      refine j_iand C d_X_enter_84 (z := nI (dif (pr ||| (2 ^ i)) (2 ^ i))) (nI_dif (by omega) (by omega)) ?_
      refine x_put C 2 (u' := (cp, cap, dif (pr ||| (2 ^ i)) (2 ^ i), fo, fb, pn', be', sc (entN N i r p k dd) rd pd)) d_X_enter_85 (by decide) fl_X_2 rfl rfl rfl ?_
      refine j_bipush C d_X_enter_88 (v := (-3)) (by decide) ?_
      exact hret _ _ _ _ d_X_enter_90 rfl ⟨pr, entN N i r p k dd, pn', be', rd, pd, by rw [or_dif hpr (by omega) hbi], Or.inr ⟨i, hi, hbi, hbl, rfl, Or.inr ⟨rfl, rfl, t_67⟩⟩⟩
    · have t_67 := bool_t hp_64 c_67
      refine j_iload C d_X_enter_70 (x := nI i) rfl ?_
      exact hret _ _ _ _ d_X_enter_72 rfl ⟨pr ||| 2 ^ i, entN N i r p k dd, pn', be', rd, pd, rfl, Or.inr ⟨i, hi, hbi, hbl, rfl, Or.inl ⟨rfl, rfl, t_67⟩⟩⟩
  · obtain ⟨-, hall⟩ := hq.resolve_right (fun z => by obtain ⟨i, rfl, z1, -⟩ := z; rw [tI i (by omega)] at c_8; omega)
    refine j_bipush C d_X_enter_11 (v := (-2)) (by decide) ?_
    exact hret _ _ _ _ d_X_enter_13 rfl ⟨pr, N, pn, be, N 7, N 8, by rw [sc_self], Or.inl ⟨rfl, rfl, rfl, hall⟩⟩
theorem d_X_add_0 : decode b_X_add 0 = .ok (.iload_n 1, 1) := by decide +kernel
theorem d_X_add_1 : decode b_X_add 1 = .ok (.ifCond .lt 19, 3) := by decide +kernel
theorem d_X_add_4 : decode b_X_add 4 = .ok (.iload_n 1, 1) := by decide +kernel
theorem d_X_add_5 : decode b_X_add 5 = .ok (.bipush 9, 2) := by decide +kernel
theorem d_X_add_7 : decode b_X_add 7 = .ok (.if_icmp .gt 13, 3) := by decide +kernel
theorem d_X_add_10 : decode b_X_add 10 = .ok (.iload_n 2, 1) := by decide +kernel
theorem d_X_add_11 : decode b_X_add 11 = .ok (.iconst 1, 1) := by decide +kernel
theorem d_X_add_12 : decode b_X_add 12 = .ok (.if_icmp .lt 8, 3) := by decide +kernel
theorem d_X_add_15 : decode b_X_add 15 = .ok (.iload_n 2, 1) := by decide +kernel
theorem d_X_add_16 : decode b_X_add 16 = .ok (.iconst 3, 1) := by decide +kernel
theorem d_X_add_17 : decode b_X_add 17 = .ok (.if_icmp .le 5, 3) := by decide +kernel
theorem d_X_add_20 : decode b_X_add 20 = .ok (.iconst (-1), 1) := by decide +kernel
theorem d_X_add_21 : decode b_X_add 21 = .ok (.ireturn, 1) := by decide +kernel
theorem d_X_add_22 : decode b_X_add 22 = .ok (.aload_n 0, 1) := by decide +kernel
theorem d_X_add_23 : decode b_X_add 23 = .ok (.iload_n 1, 1) := by decide +kernel
theorem d_X_add_24 : decode b_X_add 24 = .ok (.iload_n 2, 1) := by decide +kernel
theorem d_X_add_25 : decode b_X_add 25 = .ok (.iconst 0, 1) := by decide +kernel
theorem d_X_add_26 : decode b_X_add 26 = .ok (.iconst 0, 1) := by decide +kernel
theorem d_X_add_27 : decode b_X_add 27 = .ok (.invokevirtual 44, 3) := by decide +kernel
theorem d_X_add_30 : decode b_X_add 30 = .ok (.ireturn, 1) := by decide +kernel
def AddX (cp : Nat) (cap : Int) (pr : Nat) (fo : Int) (fb : Nat) (N : Nat → Nat → Nat) (x y res : Int32) (pr' : Nat) (N' : Nat → Nat → Nat) : Prop := (res = (-1) ∧ pr' = pr ∧ N' = N ∧ ¬ (0 ≤ x.toInt ∧ x.toInt ≤ 9 ∧ 1 ≤ y.toInt ∧ y.toInt ≤ 3)) ∨ ∃ r p, x = nI r ∧ y = nI p ∧ r ≤ 9 ∧ 1 ≤ p ∧ p ≤ 3 ∧ EntX cp cap pr fo fb N r p 0 0 res pr' N'
set_option maxHeartbeats 4000000 in
set_option maxRecDepth 100000 in
/-- add(x, y) -/
theorem c_X_add (l : Launch) (D : va_G) (h : Nat → Nat) (cs : Nat → ClassId) {cp : Nat} {cap : Int} {pr : Nat} {fo : Int} {fb pn be : Nat} {N : Nat → Nat → Nat} {rk : Nat → Nat} (hcp : cp ≤ 5) (hpr : pr < 32) (hN : okN N) (hlen : ∀ j, pr.testBit j = true → 1 ≤ N 2 j) (hA : Acy pr (N 6) rk) (hfo : -1 ≤ fo ∧ fo < 5) (hfb : fb ≤ 60) (hcap : -200 ≤ cap ∧ cap ≤ 1000) (hsub : ∀ a, pr.testBit a = true → ∀ v, (N 6 a).testBit v = true → pr.testBit v = true) (x y : Int32) : CI l y_X_add b_X_add 3 .int 6 D (tysX cs) (wX h cs) (cp, cap, pr, fo, fb, pn, be, N) [.ref (h 0), .int x, .int y] (fun res u' => ∃ pr' N' pn' be' rd pd, u' = (cp, cap, pr', fo, fb, pn', be', sc N' rd pd) ∧ AddX cp cap pr fo fb N x y res pr' N') := by
  refine CI_of ok_X_add (Nat.le_of_ble_eq_true rfl) (cat_all rfl) ?_
  intro K C hret
  have C : Kok D (tysX cs) K b_X_add 3 R_X 6 := C
  refine j_iload_n C d_X_add_0 (x := x) rfl ?_
  refine j_if_lt C d_X_add_1 (tgt := 20) (by decide) (rfl) (fun c_1 => ?_) (fun c_1 => ?_)
  · refine j_iconst C d_X_add_20 (v := (-1)) (by decide) ?_
    exact hret _ _ _ _ d_X_add_21 rfl ⟨pr, N, pn, be, N 7, N 8, by rw [sc_self], Or.inl ⟨rfl, rfl, rfl, by omega⟩⟩
  · refine j_iload_n C d_X_add_4 (x := x) rfl ?_
    refine j_bipush C d_X_add_5 (v := nI 9) (by decide) ?_
    refine j_icmp_gt C d_X_add_7 (tgt := 20) (by decide) (rfl) (tI 9 (by decide)) (fun c_7 => ?_) (fun c_7 => ?_)
    · refine j_iconst C d_X_add_20 (v := (-1)) (by decide) ?_
      exact hret _ _ _ _ d_X_add_21 rfl ⟨pr, N, pn, be, N 7, N 8, by rw [sc_self], Or.inl ⟨rfl, rfl, rfl, by omega⟩⟩
    · refine j_iload_n C d_X_add_10 (x := y) rfl ?_
      refine j_iconst C d_X_add_11 (v := nI 1) (by decide) ?_
      refine j_icmp_lt C d_X_add_12 (tgt := 20) (by decide) (rfl) (tI 1 (by decide)) (fun c_12 => ?_) (fun c_12 => ?_)
      · refine j_iconst C d_X_add_20 (v := (-1)) (by decide) ?_
        exact hret _ _ _ _ d_X_add_21 rfl ⟨pr, N, pn, be, N 7, N 8, by rw [sc_self], Or.inl ⟨rfl, rfl, rfl, by omega⟩⟩
      · refine j_iload_n C d_X_add_15 (x := y) rfl ?_
        refine j_iconst C d_X_add_16 (v := nI 3) (by decide) ?_
        refine j_icmp_le C d_X_add_17 (tgt := 22) (by decide) (rfl) (tI 3 (by decide)) (fun c_17 => ?_) (fun c_17 => ?_)
        · obtain ⟨r, hr, rfl⟩ := of_rng (n := 10) c_1 (by omega)
          obtain ⟨p, hp, rfl⟩ := of_rng (x := y) (n := 4) (by omega) (by omega)
          rw [tI p (by omega)] at c_12
          refine j_aload_n C d_X_add_22 (a := h 0) rfl ?_
          refine j_iload_n C d_X_add_23 (x := nI r) rfl ?_
          refine j_iload_n C d_X_add_24 (x := nI p) rfl ?_
          refine j_iconst C d_X_add_25 (v := nI 0) (by decide) ?_
          refine j_iconst C d_X_add_26 (v := nI 0) (by decide) ?_
          refine j_calli C (c_X_enter l D h cs hcp hpr hN hlen hA hfo hfb hcap hsub (r := r) (p := p) (k := 0) (dd := 0) (by omega) (by omega) (by omega) (by omega) (by omega)) (As := [.int (nI r), .int (nI p), .int (nI 0), .int (nI 0)]) (rest := []) ok_X_enter ml_X_44 (by decide) d_X_add_27 (q0 := 0) rfl rfl rfl rfl (Nat.le_of_ble_eq_true rfl) ?_
          intro res u' hq
          obtain ⟨pr', N', pn', be', rd, pd, rfl, hE⟩ := hq
          exact hret _ _ _ _ d_X_add_30 rfl ⟨pr', N', pn', be', rd, pd, rfl, Or.inr ⟨r, p, rfl, rfl, by omega, by omega, by omega, hE⟩⟩
        · refine j_iconst C d_X_add_20 (v := (-1)) (by decide) ?_
          exact hret _ _ _ _ d_X_add_21 rfl ⟨pr, N, pn, be, N 7, N 8, by rw [sc_self], Or.inl ⟨rfl, rfl, rfl, by omega⟩⟩
theorem d_X_addRuled_0 : decode b_X_addRuled 0 = .ok (.iload_n 1, 1) := by decide +kernel
theorem d_X_addRuled_1 : decode b_X_addRuled 1 = .ok (.iconst 1, 1) := by decide +kernel
theorem d_X_addRuled_2 : decode b_X_addRuled 2 = .ok (.if_icmp .lt 27, 3) := by decide +kernel
theorem d_X_addRuled_5 : decode b_X_addRuled 5 = .ok (.iload_n 1, 1) := by decide +kernel
theorem d_X_addRuled_6 : decode b_X_addRuled 6 = .ok (.iconst 3, 1) := by decide +kernel
theorem d_X_addRuled_7 : decode b_X_addRuled 7 = .ok (.if_icmp .gt 22, 3) := by decide +kernel
theorem d_X_addRuled_10 : decode b_X_addRuled 10 = .ok (.iload_n 2, 1) := by decide +kernel
theorem d_X_addRuled_11 : decode b_X_addRuled 11 = .ok (.ifCond .lt 18, 3) := by decide +kernel
theorem d_X_addRuled_14 : decode b_X_addRuled 14 = .ok (.iload_n 2, 1) := by decide +kernel
theorem d_X_addRuled_15 : decode b_X_addRuled 15 = .ok (.iconst 3, 1) := by decide +kernel
theorem d_X_addRuled_16 : decode b_X_addRuled 16 = .ok (.if_icmp .gt 13, 3) := by decide +kernel
theorem d_X_addRuled_19 : decode b_X_addRuled 19 = .ok (.iload_n 3, 1) := by decide +kernel
theorem d_X_addRuled_20 : decode b_X_addRuled 20 = .ok (.ifCond .lt 9, 3) := by decide +kernel
theorem d_X_addRuled_23 : decode b_X_addRuled 23 = .ok (.iload_n 3, 1) := by decide +kernel
theorem d_X_addRuled_24 : decode b_X_addRuled 24 = .ok (.bipush 30, 2) := by decide +kernel
theorem d_X_addRuled_26 : decode b_X_addRuled 26 = .ok (.if_icmp .le 5, 3) := by decide +kernel
theorem d_X_addRuled_29 : decode b_X_addRuled 29 = .ok (.iconst (-1), 1) := by decide +kernel
theorem d_X_addRuled_30 : decode b_X_addRuled 30 = .ok (.ireturn, 1) := by decide +kernel
theorem d_X_addRuled_31 : decode b_X_addRuled 31 = .ok (.aload_n 0, 1) := by decide +kernel
theorem d_X_addRuled_32 : decode b_X_addRuled 32 = .ok (.iconst 0, 1) := by decide +kernel
theorem d_X_addRuled_33 : decode b_X_addRuled 33 = .ok (.iload_n 1, 1) := by decide +kernel
theorem d_X_addRuled_34 : decode b_X_addRuled 34 = .ok (.iload_n 2, 1) := by decide +kernel
theorem d_X_addRuled_35 : decode b_X_addRuled 35 = .ok (.iload_n 3, 1) := by decide +kernel
theorem d_X_addRuled_36 : decode b_X_addRuled 36 = .ok (.invokevirtual 44, 3) := by decide +kernel
theorem d_X_addRuled_39 : decode b_X_addRuled 39 = .ok (.ireturn, 1) := by decide +kernel
def AddRX (cp : Nat) (cap : Int) (pr : Nat) (fo : Int) (fb : Nat) (N : Nat → Nat → Nat) (x y z res : Int32) (pr' : Nat) (N' : Nat → Nat → Nat) : Prop := (res = (-1) ∧ pr' = pr ∧ N' = N ∧ ¬ (1 ≤ x.toInt ∧ x.toInt ≤ 3 ∧ 0 ≤ y.toInt ∧ y.toInt ≤ 3 ∧ 0 ≤ z.toInt ∧ z.toInt ≤ 30)) ∨ ∃ p k d, x = nI p ∧ y = nI k ∧ z = nI d ∧ 1 ≤ p ∧ p ≤ 3 ∧ k ≤ 3 ∧ d ≤ 30 ∧ EntX cp cap pr fo fb N 0 p k d res pr' N'
set_option maxHeartbeats 4000000 in
set_option maxRecDepth 100000 in
/-- addRuled(x, y, z) -/
theorem c_X_addRuled (l : Launch) (D : va_G) (h : Nat → Nat) (cs : Nat → ClassId) {cp : Nat} {cap : Int} {pr : Nat} {fo : Int} {fb pn be : Nat} {N : Nat → Nat → Nat} {rk : Nat → Nat} (hcp : cp ≤ 5) (hpr : pr < 32) (hN : okN N) (hlen : ∀ j, pr.testBit j = true → 1 ≤ N 2 j) (hA : Acy pr (N 6) rk) (hfo : -1 ≤ fo ∧ fo < 5) (hfb : fb ≤ 60) (hcap : -200 ≤ cap ∧ cap ≤ 1000) (hsub : ∀ a, pr.testBit a = true → ∀ v, (N 6 a).testBit v = true → pr.testBit v = true) (x y z : Int32) : CI l y_X_addRuled b_X_addRuled 4 .int 6 D (tysX cs) (wX h cs) (cp, cap, pr, fo, fb, pn, be, N) [.ref (h 0), .int x, .int y, .int z] (fun res u' => ∃ pr' N' pn' be' rd pd, u' = (cp, cap, pr', fo, fb, pn', be', sc N' rd pd) ∧ AddRX cp cap pr fo fb N x y z res pr' N') := by
  refine CI_of ok_X_addRuled (Nat.le_of_ble_eq_true rfl) (cat_all rfl) ?_
  intro K C hret
  have C : Kok D (tysX cs) K b_X_addRuled 4 R_X 6 := C
  refine j_iload_n C d_X_addRuled_0 (x := x) rfl ?_
  refine j_iconst C d_X_addRuled_1 (v := nI 1) (by decide) ?_
  refine j_icmp_lt C d_X_addRuled_2 (tgt := 29) (by decide) (rfl) (tI 1 (by decide)) (fun c_2 => ?_) (fun c_2 => ?_)
  · refine j_iconst C d_X_addRuled_29 (v := (-1)) (by decide) ?_
    exact hret _ _ _ _ d_X_addRuled_30 rfl ⟨pr, N, pn, be, N 7, N 8, by rw [sc_self], Or.inl ⟨rfl, rfl, rfl, by omega⟩⟩
  · refine j_iload_n C d_X_addRuled_5 (x := x) rfl ?_
    refine j_iconst C d_X_addRuled_6 (v := nI 3) (by decide) ?_
    refine j_icmp_gt C d_X_addRuled_7 (tgt := 29) (by decide) (rfl) (tI 3 (by decide)) (fun c_7 => ?_) (fun c_7 => ?_)
    · refine j_iconst C d_X_addRuled_29 (v := (-1)) (by decide) ?_
      exact hret _ _ _ _ d_X_addRuled_30 rfl ⟨pr, N, pn, be, N 7, N 8, by rw [sc_self], Or.inl ⟨rfl, rfl, rfl, by omega⟩⟩
    · refine j_iload_n C d_X_addRuled_10 (x := y) rfl ?_
      refine j_if_lt C d_X_addRuled_11 (tgt := 29) (by decide) (rfl) (fun c_11 => ?_) (fun c_11 => ?_)
      · refine j_iconst C d_X_addRuled_29 (v := (-1)) (by decide) ?_
        exact hret _ _ _ _ d_X_addRuled_30 rfl ⟨pr, N, pn, be, N 7, N 8, by rw [sc_self], Or.inl ⟨rfl, rfl, rfl, by omega⟩⟩
      · refine j_iload_n C d_X_addRuled_14 (x := y) rfl ?_
        refine j_iconst C d_X_addRuled_15 (v := nI 3) (by decide) ?_
        refine j_icmp_gt C d_X_addRuled_16 (tgt := 29) (by decide) (rfl) (tI 3 (by decide)) (fun c_16 => ?_) (fun c_16 => ?_)
        · refine j_iconst C d_X_addRuled_29 (v := (-1)) (by decide) ?_
          exact hret _ _ _ _ d_X_addRuled_30 rfl ⟨pr, N, pn, be, N 7, N 8, by rw [sc_self], Or.inl ⟨rfl, rfl, rfl, by omega⟩⟩
        · refine j_iload_n C d_X_addRuled_19 (x := z) rfl ?_
          refine j_if_lt C d_X_addRuled_20 (tgt := 29) (by decide) (rfl) (fun c_20 => ?_) (fun c_20 => ?_)
          · refine j_iconst C d_X_addRuled_29 (v := (-1)) (by decide) ?_
            exact hret _ _ _ _ d_X_addRuled_30 rfl ⟨pr, N, pn, be, N 7, N 8, by rw [sc_self], Or.inl ⟨rfl, rfl, rfl, by omega⟩⟩
          · refine j_iload_n C d_X_addRuled_23 (x := z) rfl ?_
            refine j_bipush C d_X_addRuled_24 (v := nI 30) (by decide) ?_
            refine j_icmp_le C d_X_addRuled_26 (tgt := 31) (by decide) (rfl) (tI 30 (by decide)) (fun c_26 => ?_) (fun c_26 => ?_)
            · obtain ⟨p, hp, rfl⟩ := of_rng (x := x) (n := 4) (by omega) (by omega)
              obtain ⟨k, hk, rfl⟩ := of_rng (x := y) (n := 4) (by omega) (by omega)
              obtain ⟨d, hd, rfl⟩ := of_rng (x := z) (n := 31) (by omega) (by omega)
              rw [tI p (by omega)] at c_2
              refine j_aload_n C d_X_addRuled_31 (a := h 0) rfl ?_
              refine j_iconst C d_X_addRuled_32 (v := nI 0) (by decide) ?_
              refine j_iload_n C d_X_addRuled_33 (x := nI p) rfl ?_
              refine j_iload_n C d_X_addRuled_34 (x := nI k) rfl ?_
              refine j_iload_n C d_X_addRuled_35 (x := nI d) rfl ?_
              refine j_calli C (c_X_enter l D h cs hcp hpr hN hlen hA hfo hfb hcap hsub (r := 0) (p := p) (k := k) (dd := d) (by omega) (by omega) (by omega) (by omega) (by omega)) (As := [.int (nI 0), .int (nI p), .int (nI k), .int (nI d)]) (rest := []) ok_X_enter ml_X_44 (by decide) d_X_addRuled_36 (q0 := 0) rfl rfl rfl rfl (Nat.le_of_ble_eq_true rfl) ?_
              intro res u' hq
              obtain ⟨pr', N', pn', be', rd, pd, rfl, hE⟩ := hq
              exact hret _ _ _ _ d_X_addRuled_39 rfl ⟨pr', N', pn', be', rd, pd, rfl, Or.inr ⟨p, k, d, rfl, rfl, rfl, by omega, by omega, by omega, by omega, hE⟩⟩
            · refine j_iconst C d_X_addRuled_29 (v := (-1)) (by decide) ?_
              exact hret _ _ _ _ d_X_addRuled_30 rfl ⟨pr, N, pn, be, N 7, N 8, by rw [sc_self], Or.inl ⟨rfl, rfl, rfl, by omega⟩⟩
theorem d_X_setRule_0 : decode b_X_setRule 0 = .ok (.aload_n 0, 1) := by decide +kernel
theorem d_X_setRule_1 : decode b_X_setRule 1 = .ok (.iload_n 1, 1) := by decide +kernel
theorem d_X_setRule_2 : decode b_X_setRule 2 = .ok (.invokevirtual 63, 3) := by decide +kernel
theorem d_X_setRule_5 : decode b_X_setRule 5 = .ok (.ifCond .eq 34, 3) := by decide +kernel
theorem d_X_setRule_8 : decode b_X_setRule 8 = .ok (.iload_n 2, 1) := by decide +kernel
theorem d_X_setRule_9 : decode b_X_setRule 9 = .ok (.ifCond .lt 30, 3) := by decide +kernel
theorem d_X_setRule_12 : decode b_X_setRule 12 = .ok (.iload_n 2, 1) := by decide +kernel
theorem d_X_setRule_13 : decode b_X_setRule 13 = .ok (.iconst 3, 1) := by decide +kernel
theorem d_X_setRule_14 : decode b_X_setRule 14 = .ok (.if_icmp .gt 25, 3) := by decide +kernel
theorem d_X_setRule_17 : decode b_X_setRule 17 = .ok (.iload_n 3, 1) := by decide +kernel
theorem d_X_setRule_18 : decode b_X_setRule 18 = .ok (.ifCond .lt 21, 3) := by decide +kernel
theorem d_X_setRule_21 : decode b_X_setRule 21 = .ok (.iload_n 3, 1) := by decide +kernel
theorem d_X_setRule_22 : decode b_X_setRule 22 = .ok (.bipush 30, 2) := by decide +kernel
theorem d_X_setRule_24 : decode b_X_setRule 24 = .ok (.if_icmp .gt 15, 3) := by decide +kernel
theorem d_X_setRule_27 : decode b_X_setRule 27 = .ok (.iload 4, 2) := by decide +kernel
theorem d_X_setRule_29 : decode b_X_setRule 29 = .ok (.iconst 1, 1) := by decide +kernel
theorem d_X_setRule_30 : decode b_X_setRule 30 = .ok (.if_icmp .lt 9, 3) := by decide +kernel
theorem d_X_setRule_33 : decode b_X_setRule 33 = .ok (.iload 4, 2) := by decide +kernel
theorem d_X_setRule_35 : decode b_X_setRule 35 = .ok (.iconst 5, 1) := by decide +kernel
theorem d_X_setRule_36 : decode b_X_setRule 36 = .ok (.if_icmp .le 5, 3) := by decide +kernel
theorem d_X_setRule_39 : decode b_X_setRule 39 = .ok (.iconst (-1), 1) := by decide +kernel
theorem d_X_setRule_40 : decode b_X_setRule 40 = .ok (.ireturn, 1) := by decide +kernel
theorem d_X_setRule_41 : decode b_X_setRule 41 = .ok (.aload_n 0, 1) := by decide +kernel
theorem d_X_setRule_42 : decode b_X_setRule 42 = .ok (.getfield 16, 3) := by decide +kernel
theorem d_X_setRule_45 : decode b_X_setRule 45 = .ok (.iload_n 1, 1) := by decide +kernel
theorem d_X_setRule_46 : decode b_X_setRule 46 = .ok (.baload, 1) := by decide +kernel
theorem d_X_setRule_47 : decode b_X_setRule 47 = .ok (.istore 5, 2) := by decide +kernel
theorem d_X_setRule_49 : decode b_X_setRule 49 = .ok (.aload_n 0, 1) := by decide +kernel
theorem d_X_setRule_50 : decode b_X_setRule 50 = .ok (.getfield 19, 3) := by decide +kernel
theorem d_X_setRule_53 : decode b_X_setRule 53 = .ok (.iload_n 1, 1) := by decide +kernel
theorem d_X_setRule_54 : decode b_X_setRule 54 = .ok (.baload, 1) := by decide +kernel
theorem d_X_setRule_55 : decode b_X_setRule 55 = .ok (.istore 6, 2) := by decide +kernel
theorem d_X_setRule_57 : decode b_X_setRule 57 = .ok (.aload_n 0, 1) := by decide +kernel
theorem d_X_setRule_58 : decode b_X_setRule 58 = .ok (.getfield 22, 3) := by decide +kernel
theorem d_X_setRule_61 : decode b_X_setRule 61 = .ok (.iload_n 1, 1) := by decide +kernel
theorem d_X_setRule_62 : decode b_X_setRule 62 = .ok (.baload, 1) := by decide +kernel
theorem d_X_setRule_63 : decode b_X_setRule 63 = .ok (.istore 7, 2) := by decide +kernel
theorem d_X_setRule_65 : decode b_X_setRule 65 = .ok (.aload_n 0, 1) := by decide +kernel
theorem d_X_setRule_66 : decode b_X_setRule 66 = .ok (.iload_n 1, 1) := by decide +kernel
theorem d_X_setRule_67 : decode b_X_setRule 67 = .ok (.iload_n 2, 1) := by decide +kernel
theorem d_X_setRule_68 : decode b_X_setRule 68 = .ok (.iload_n 3, 1) := by decide +kernel
theorem d_X_setRule_69 : decode b_X_setRule 69 = .ok (.iload 4, 2) := by decide +kernel
theorem d_X_setRule_71 : decode b_X_setRule 71 = .ok (.invokevirtual 52, 3) := by decide +kernel
theorem d_X_setRule_74 : decode b_X_setRule 74 = .ok (.aload_n 0, 1) := by decide +kernel
theorem d_X_setRule_75 : decode b_X_setRule 75 = .ok (.invokevirtual 59, 3) := by decide +kernel
theorem d_X_setRule_78 : decode b_X_setRule 78 = .ok (.ifCond .eq 5, 3) := by decide +kernel
theorem d_X_setRule_81 : decode b_X_setRule 81 = .ok (.iconst 0, 1) := by decide +kernel
theorem d_X_setRule_82 : decode b_X_setRule 82 = .ok (.ireturn, 1) := by decide +kernel
theorem d_X_setRule_83 : decode b_X_setRule 83 = .ok (.aload_n 0, 1) := by decide +kernel
theorem d_X_setRule_84 : decode b_X_setRule 84 = .ok (.iload_n 1, 1) := by decide +kernel
theorem d_X_setRule_85 : decode b_X_setRule 85 = .ok (.iload 5, 2) := by decide +kernel
theorem d_X_setRule_87 : decode b_X_setRule 87 = .ok (.iload 6, 2) := by decide +kernel
theorem d_X_setRule_89 : decode b_X_setRule 89 = .ok (.iload 7, 2) := by decide +kernel
theorem d_X_setRule_91 : decode b_X_setRule 91 = .ok (.invokevirtual 52, 3) := by decide +kernel
theorem d_X_setRule_94 : decode b_X_setRule 94 = .ok (.bipush (-3), 2) := by decide +kernel
theorem d_X_setRule_96 : decode b_X_setRule 96 = .ok (.ireturn, 1) := by decide +kernel
def SetX (cp : Nat) (cap : Int) (pr : Nat) (fo : Int) (fb : Nat) (N : Nat → Nat → Nat) (x y z v res : Int32) (N' : Nat → Nat → Nat) : Prop := (res = (-1) ∧ N' = N ∧ ¬ (hld cp pr x ∧ 0 ≤ y.toInt ∧ y.toInt ≤ 3 ∧ 0 ≤ z.toInt ∧ z.toInt ≤ 30 ∧ 1 ≤ v.toInt ∧ v.toInt ≤ 5)) ∨ ∃ i k d w, x = nI i ∧ y = nI k ∧ z = nI d ∧ v = nI w ∧ i < cp ∧ pr.testBit i = true ∧ k ≤ 3 ∧ d ≤ 30 ∧ 1 ≤ w ∧ w ≤ 5 ∧ ((res = nI 0 ∧ N' = rulN N i k d w ∧ FE N' fo fb pr cap) ∨ (res = (-3) ∧ N' = N ∧ ¬ FE (rulN N i k d w) fo fb pr cap))
set_option maxHeartbeats 4000000 in
set_option maxRecDepth 100000 in
/-- setRule(x, y, z, v) -/
theorem c_X_setRule (l : Launch) (D : va_G) (h : Nat → Nat) (cs : Nat → ClassId) {cp : Nat} {cap : Int} {pr : Nat} {fo : Int} {fb pn be : Nat} {N : Nat → Nat → Nat} {rk : Nat → Nat} (hcp : cp ≤ 5) (hpr : pr < 32) (hN : okN N) (hlen : ∀ j, pr.testBit j = true → 1 ≤ N 2 j) (hA : Acy pr (N 6) rk) (hfo : -1 ≤ fo ∧ fo < 5) (hfb : fb ≤ 60) (hcap : -200 ≤ cap ∧ cap ≤ 1000) (x y z v : Int32) : CI l y_X_setRule b_X_setRule 8 .int 5 D (tysX cs) (wX h cs) (cp, cap, pr, fo, fb, pn, be, N) [.ref (h 0), .int x, .int y, .int z, .int v] (fun res u' => ∃ N' pn' be' rd pd, u' = (cp, cap, pr, fo, fb, pn', be', sc N' rd pd) ∧ SetX cp cap pr fo fb N x y z v res N') := by
  refine CI_of ok_X_setRule (Nat.le_of_ble_eq_true rfl) (cat_all rfl) ?_
  intro K C hret
  have C : Kok D (tysX cs) K b_X_setRule 8 R_X 5 := C
  refine j_aload_n C d_X_setRule_0 (a := h 0) rfl ?_
  refine j_iload_n C d_X_setRule_1 (x := x) rfl ?_
  refine j_calli C (c_X_holds l D h cs hcp hpr x) (As := [.int x]) (rest := []) ok_X_holds ml_X_63 (by decide) d_X_setRule_2 (q0 := 0) rfl rfl rfl rfl (Nat.le_of_ble_eq_true rfl) ?_
  intro r_2 u' hp
  obtain ⟨rfl, hp_2⟩ := hp
  refine j_if_eq C d_X_setRule_5 (tgt := 39) (by decide) (rfl) (fun c_5 => ?_) (fun c_5 => ?_)
  · have t_5 := bool_f hp_2 c_5
    refine j_iconst C d_X_setRule_39 (v := (-1)) (by decide) ?_
    exact hret _ _ _ _ d_X_setRule_40 rfl ⟨N, pn, be, N 7, N 8, by rw [sc_self], Or.inl ⟨rfl, rfl, fun q => by first | exact t_5 q.1 | omega⟩⟩
  · have t_5 := bool_t hp_2 c_5
    refine j_iload_n C d_X_setRule_8 (x := y) rfl ?_
    refine j_if_lt C d_X_setRule_9 (tgt := 39) (by decide) (rfl) (fun c_9 => ?_) (fun c_9 => ?_)
    · refine j_iconst C d_X_setRule_39 (v := (-1)) (by decide) ?_
      exact hret _ _ _ _ d_X_setRule_40 rfl ⟨N, pn, be, N 7, N 8, by rw [sc_self], Or.inl ⟨rfl, rfl, fun q => by first | exact t_5 q.1 | omega⟩⟩
    · refine j_iload_n C d_X_setRule_12 (x := y) rfl ?_
      refine j_iconst C d_X_setRule_13 (v := nI 3) (by decide) ?_
      refine j_icmp_gt C d_X_setRule_14 (tgt := 39) (by decide) (rfl) (tI 3 (by decide)) (fun c_14 => ?_) (fun c_14 => ?_)
      · refine j_iconst C d_X_setRule_39 (v := (-1)) (by decide) ?_
        exact hret _ _ _ _ d_X_setRule_40 rfl ⟨N, pn, be, N 7, N 8, by rw [sc_self], Or.inl ⟨rfl, rfl, fun q => by first | exact t_5 q.1 | omega⟩⟩
      · refine j_iload_n C d_X_setRule_17 (x := z) rfl ?_
        refine j_if_lt C d_X_setRule_18 (tgt := 39) (by decide) (rfl) (fun c_18 => ?_) (fun c_18 => ?_)
        · refine j_iconst C d_X_setRule_39 (v := (-1)) (by decide) ?_
          exact hret _ _ _ _ d_X_setRule_40 rfl ⟨N, pn, be, N 7, N 8, by rw [sc_self], Or.inl ⟨rfl, rfl, fun q => by first | exact t_5 q.1 | omega⟩⟩
        · refine j_iload_n C d_X_setRule_21 (x := z) rfl ?_
          refine j_bipush C d_X_setRule_22 (v := nI 30) (by decide) ?_
          refine j_icmp_gt C d_X_setRule_24 (tgt := 39) (by decide) (rfl) (tI 30 (by decide)) (fun c_24 => ?_) (fun c_24 => ?_)
          · refine j_iconst C d_X_setRule_39 (v := (-1)) (by decide) ?_
            exact hret _ _ _ _ d_X_setRule_40 rfl ⟨N, pn, be, N 7, N 8, by rw [sc_self], Or.inl ⟨rfl, rfl, fun q => by first | exact t_5 q.1 | omega⟩⟩
          · refine j_iload C d_X_setRule_27 (x := v) rfl ?_
            refine j_iconst C d_X_setRule_29 (v := nI 1) (by decide) ?_
            refine j_icmp_lt C d_X_setRule_30 (tgt := 39) (by decide) (rfl) (tI 1 (by decide)) (fun c_30 => ?_) (fun c_30 => ?_)
            · refine j_iconst C d_X_setRule_39 (v := (-1)) (by decide) ?_
              exact hret _ _ _ _ d_X_setRule_40 rfl ⟨N, pn, be, N 7, N 8, by rw [sc_self], Or.inl ⟨rfl, rfl, fun q => by first | exact t_5 q.1 | omega⟩⟩
            · refine j_iload C d_X_setRule_33 (x := v) rfl ?_
              refine j_iconst C d_X_setRule_35 (v := nI 5) (by decide) ?_
              refine j_icmp_le C d_X_setRule_36 (tgt := 41) (by decide) (rfl) (tI 5 (by decide)) (fun c_36 => ?_) (fun c_36 => ?_)
              · obtain ⟨i, hi, rfl, hbi⟩ := t_5
                obtain ⟨k, hk, rfl⟩ := of_rng (x := y) (n := 4) (by omega) (by omega)
                obtain ⟨d, hd, rfl⟩ := of_rng (x := z) (n := 31) (by omega) (by omega)
                obtain ⟨w, hw, rfl⟩ := of_rng (x := v) (n := 6) (by omega) (by omega)
                rw [tI w (by omega)] at c_30
                obtain ⟨o1, o2, o3, o4, o5, o6⟩ := hN i (by omega)
                refine j_aload_n C d_X_setRule_41 (a := h 0) rfl ?_
                refine x_get C 5 (v := .ref (h 3)) d_X_setRule_42 (by decide) fl_X_5 rfl ?_
                refine j_iload_n C d_X_setRule_45 (x := nI i) rfl ?_
                refine j_bald C 3 2 (f := fun ξ => nI ((N 3) ξ)) (i := i) (v := nI (N 3 i)) d_X_setRule_46 rfl rfl (by omega) (by decide) rfl ?_
                refine j_istore C d_X_setRule_47 (Nat.le_of_ble_eq_true rfl) (Nat.le_of_ble_eq_true rfl) (L' := [.ref (h 0), .int (nI i), .int (nI k), .int (nI d), .int (nI w), .int (nI (N 3 i))]) rfl ?_
                refine j_aload_n C d_X_setRule_49 (a := h 0) rfl ?_
                refine x_get C 6 (v := .ref (h 4)) d_X_setRule_50 (by decide) fl_X_6 rfl ?_
                refine j_iload_n C d_X_setRule_53 (x := nI i) rfl ?_
                refine j_bald C 4 3 (f := fun ξ => nI ((N 4) ξ)) (i := i) (v := nI (N 4 i)) d_X_setRule_54 rfl rfl (by omega) (by decide) rfl ?_
                refine j_istore C d_X_setRule_55 (Nat.le_of_ble_eq_true rfl) (Nat.le_of_ble_eq_true rfl) (L' := [.ref (h 0), .int (nI i), .int (nI k), .int (nI d), .int (nI w), .int (nI (N 3 i)), .int (nI (N 4 i))]) rfl ?_
                refine j_aload_n C d_X_setRule_57 (a := h 0) rfl ?_
                refine x_get C 7 (v := .ref (h 5)) d_X_setRule_58 (by decide) fl_X_7 rfl ?_
                refine j_iload_n C d_X_setRule_61 (x := nI i) rfl ?_
                refine j_bald C 5 4 (f := fun ξ => nI ((N 5) ξ)) (i := i) (v := nI (N 5 i)) d_X_setRule_62 rfl rfl (by omega) (by decide) rfl ?_
                refine j_istore C d_X_setRule_63 (Nat.le_of_ble_eq_true rfl) (Nat.le_of_ble_eq_true rfl) (L' := [.ref (h 0), .int (nI i), .int (nI k), .int (nI d), .int (nI w), .int (nI (N 3 i)), .int (nI (N 4 i)), .int (nI (N 5 i))]) rfl ?_
                refine j_aload_n C d_X_setRule_65 (a := h 0) rfl ?_
                refine j_iload_n C d_X_setRule_66 (x := nI i) rfl ?_
                refine j_iload_n C d_X_setRule_67 (x := nI k) rfl ?_
                refine j_iload_n C d_X_setRule_68 (x := nI d) rfl ?_
                refine j_iload C d_X_setRule_69 (x := nI w) rfl ?_
                refine j_callv C (c_X_rule l D h cs (i := i) (k := k) (dd := d) (ww := w) (by omega) (by omega) (by omega) (by omega)) (As := [.int (nI i), .int (nI k), .int (nI d), .int (nI w)]) (rest := []) ok_X_rule ml_X_52 (by decide) d_X_setRule_71 (q0 := 0) rfl rfl rfl rfl (Nat.le_of_ble_eq_true rfl) ?_
                intro u' hq2
                subst hq2
                refine j_same (u' := (cp, cap, pr, fo, fb, pn, be, rulN N i k d w)) rfl ?_
                refine j_aload_n C d_X_setRule_74 (a := h 0) rfl ?_
                refine j_calli C (c_X_withinCap l D h cs (N := rulN N i k d w) (rk := rk) hpr (okN_rul hN (by omega) (by omega) (by omega)) hlen hA hfo hfb hcap) (As := []) (rest := []) ok_X_withinCap ml_X_59 (by decide) d_X_setRule_75 (q0 := 0) rfl rfl rfl rfl (Nat.le_of_ble_eq_true rfl) ?_
                intro r_75 u' hq3
                obtain ⟨pn', be', rd, pd, rfl, hp_75⟩ := hq3
                refine j_if_eq C d_X_setRule_78 (tgt := 83) (by decide) (rfl) (fun c_78 => ?_) (fun c_78 => ?_)
                · have t_78 := bool_f hp_75 c_78
                  refine j_aload_n C d_X_setRule_83 (a := h 0) rfl ?_
                  refine j_iload_n C d_X_setRule_84 (x := nI i) rfl ?_
                  refine j_iload C d_X_setRule_85 (x := nI (N 3 i)) rfl ?_
                  refine j_iload C d_X_setRule_87 (x := nI (N 4 i)) rfl ?_
                  refine j_iload C d_X_setRule_89 (x := nI (N 5 i)) rfl ?_
                  refine j_callv C (c_X_rule l D h cs (N := sc (rulN N i k d w) rd pd) (i := i) (k := N 3 i) (dd := N 4 i) (ww := N 5 i) (by omega) (by omega) (by omega) (by omega)) (As := [.int (nI i), .int (nI (N 3 i)), .int (nI (N 4 i)), .int (nI (N 5 i))]) (rest := []) ok_X_rule ml_X_52 (by decide) d_X_setRule_91 (q0 := 0) rfl rfl rfl rfl (Nat.le_of_ble_eq_true rfl) ?_
                  intro u' hq2
                  subst hq2
                  refine j_same (u' := (cp, cap, pr, fo, fb, pn', be', sc (rulN (rulN N i k d w) i (N 3 i) (N 4 i) (N 5 i)) rd pd)) rfl ?_
                  rw [rul_back]
                  refine j_bipush C d_X_setRule_94 (v := (-3)) (by decide) ?_
                  exact hret _ _ _ _ d_X_setRule_96 rfl ⟨_, pn', be', rd, pd, rfl, Or.inr ⟨i, k, d, w, rfl, rfl, rfl, rfl, hi, hbi, by omega, by omega, by omega, by omega, Or.inr ⟨rfl, rfl, t_78⟩⟩⟩
                · have t_78 := bool_t hp_75 c_78
                  refine j_iconst C d_X_setRule_81 (v := nI 0) (by decide) ?_
                  exact hret _ _ _ _ d_X_setRule_82 rfl ⟨_, pn', be', rd, pd, rfl, Or.inr ⟨i, k, d, w, rfl, rfl, rfl, rfl, hi, hbi, by omega, by omega, by omega, by omega, Or.inl ⟨rfl, rfl, t_78⟩⟩⟩
              · refine j_iconst C d_X_setRule_39 (v := (-1)) (by decide) ?_
                exact hret _ _ _ _ d_X_setRule_40 rfl ⟨N, pn, be, N 7, N 8, by rw [sc_self], Or.inl ⟨rfl, rfl, fun q => by first | exact t_5 q.1 | omega⟩⟩
end
section
/-! ===== the span; searches ===== -/
theorem eo_ex (g : Nat) (rd : Nat → Nat) : ∀ i, ∃ b, eoP g rd i b := by
  intro i
  induction i with
  | zero => exact ⟨-1, eoP_0 g rd⟩
  | succ i ih =>
    obtain ⟨b, hb⟩ := ih
    cases hg : g.testBit i
    · exact ⟨b, eoP_skip hb hg⟩
    · by_cases h0 : b < 0
      · exact ⟨i, eoP_first hb h0 hg⟩
      · obtain ⟨m, rfl, hm⟩ := eoP_pos hb (by omega)
        by_cases hr : rd i < rd m
        · exact ⟨i, eoP_better hb hr hg⟩
        · exact ⟨m, eoP_keep hb (by omega)⟩
theorem blk_ex {rd len : Nat → Nat} {g : Nat} (hg : g < 32) (hg0 : g ≠ 0) (hlen : ∀ j, g.testBit j = true → 1 ≤ len j) : ∃ blk st e, BlkF rd len g blk st e := by
  have key : ∀ n k blk t, k + n = 5 → FB rd len g k blk t → ∃ blk st e, BlkF rd len g blk st e := by
    intro n
    induction n with
    | zero =>
      intro k blk t hk h
      obtain ⟨st, e, -, h1⟩ := FB_end1 hg h (by omega)
      exact ⟨blk, st, e, h1⟩
    | succ n ih =>
      intro k blk t hk h
      obtain ⟨b, hb⟩ := eo_ex (dif g blk) rd 5
      by_cases hb0 : b < 0
      · obtain ⟨st, e, -, h1⟩ := FB_end2 hg hg0 h (eo_none hb hb0)
        exact ⟨blk, st, e, h1⟩
      · obtain ⟨m, rfl, hm, hgm, hmin⟩ := eo_get hb (by omega)
        by_cases ht : t < 0
        · exact ih _ _ _ (by omega) (FB_first hg h ht hm hgm hmin hlen)
        · obtain ⟨st, e, rfl, hB⟩ := FB_pos h (by omega)
          by_cases hr : rd m < e
          · exact ih _ _ _ (by omega) (FB_next hg h hB hm hgm hmin hlen hr)
          · obtain ⟨st', e', -, h1⟩ := FB_end3 hg hB hmin (by omega)
            exact ⟨blk, st', e', h1⟩
  exact key 5 0 0 (-1) (by omega) (FB_0 _ _ _)
def anyT (_ _ : Nat) : Prop := True
section SPAN
variable {g : Nat} {rel rd len : Nat → Nat} {E : Nat → Nat → Prop} {fol rk : Nat → Nat}
theorem good_any (hE : ∀ i j, E i j ↔ (fol i).testBit j = true) (hg : g < 32) (hA : Acy g fol rk) (hlen : ∀ j, g.testBit j = true → 1 ≤ len j) (hed : ∀ i j, g.testBit i = true → g.testBit j = true → E i j → rd i + len i ≤ rd j) : ∀ n G, sm G (fun _ => 1) ≤ n → G < 32 → (∀ j, G.testBit j = true → g.testBit j = true) → ∃ T, Good G rd len E anyT T := by
  intro n
  induction n with
  | zero =>
    intro G hn hG _
    have : G = 0 := Classical.byContradiction fun z => by have := sm_one hG z; omega
    subst this
    exact ⟨0, good_0 0⟩
  | succ n ih =>
    intro G hn hG hs
    by_cases h0 : G = 0
    · subst h0; exact ⟨0, good_0 0⟩
    · obtain ⟨blk, st, e, hF⟩ := blk_ex (rd := rd) hG h0 (fun j hj => hlen j (hs j hj))
      have b32 := hF.1.1
      have b0 := blk_ne hF.1
      obtain ⟨q, hq, hqf⟩ := top_ex hA hg (fun j hj => hs j (hF.1.2.1 j hj)) b32 b0
      have a1 := sm_sub (f := fun _ => 1) hG hF.1.2.1
      have a2 := sm_split (f := fun _ => 1) b32 hq
      have a3 := sm_one b32 b0
      obtain ⟨T1, g1⟩ := ih (dif blk (2 ^ q)) (by omega) (dif_lt b32) (fun j hj => hs j (hF.1.2.1 j ((dif_t b32).mp hj).1))
      obtain ⟨T2, g2⟩ := ih (dif G blk) (by omega) (dif_lt hG) (fun j hj => hs j ((dif_t hG).mp hj).1)
      refine ⟨max T2 e, good_comp hG hF hq (fun j hj z => ?_) (fun a b ha hb => hed a b (hs a ha) (hs b hb)) (fun j hj => hlen j (hs j hj)) (fun _ _ => trivial) g1 (good_T g2 (Nat.le_max_left _ _)) (Nat.le_max_right _ _)⟩
      rw [hE, hqf j hj] at z
      cases z
/-- e is the least time by which all jobs can be done -/
def SpanIs (g : Nat) (rel len : Nat → Nat) (E : Nat → Nat → Prop) (e : Nat) : Prop := (∃ σ, Val g rel len E anyT σ ∧ ∀ j, g.testBit j = true → len j ≤ cnt σ j e) ∧ ∀ σ T, Val g rel len E anyT σ → (∀ j, g.testBit j = true → len j ≤ cnt σ j T) → e ≤ T
def SPP (g : Nat) (rel rd len : Nat → Nat) (E : Nat → Nat → Prop) (k G e : Nat) : Prop := G < 32 ∧ (∀ j, G.testBit j = true → g.testBit j = true) ∧ k + sm G (fun _ => 1) ≤ 5 ∧ (∀ j, G.testBit j = true → e ≤ rd j) ∧ (∀ T, e ≤ T → Good G rd len E anyT T → Good g rd len E anyT T) ∧ ∀ σ T, Val g rel len E anyT σ → (∀ j, g.testBit j = true → len j ≤ cnt σ j T) → e ≤ T
theorem SPP_0 (hg : g < 32) : SPP g rel rd len E 0 g 0 := by
  refine ⟨hg, fun j h => h, ?_, fun _ _ => Nat.zero_le _, fun T _ h => h, fun _ _ _ _ => Nat.zero_le _⟩
  have := sm_bd (g := g) (f := fun _ => 1) (c := 1) (fun _ _ => Nat.le_refl _)
  omega
theorem SPP_step {k G e blk st e' : Nat} (hE : ∀ i j, E i j ↔ (fol i).testBit j = true) (hg : g < 32) (hA : Acy g fol rk) (hlen : ∀ j, g.testBit j = true → 1 ≤ len j) (hR : RdOK g rel len E rd) (h : SPP g rel rd len E k G e) (hF : BlkF rd len G blk st e') : SPP g rel rd len E (k + 1) (dif G blk) e' := by
  obtain ⟨h1, h2, h3, h4, h5, h6⟩ := h
  have b32 := hF.1.1
  have b0 := blk_ne hF.1
  have hbg : ∀ j, blk.testBit j = true → g.testBit j = true := fun j hj => h2 j (hF.1.2.1 j hj)
  obtain ⟨q, hq, hqf⟩ := top_ex hA hg hbg b32 b0
  have a1 := sm_sub (f := fun _ => 1) h1 hF.1.2.1
  have a3 := sm_one b32 b0
  have hst := hF.1.2.2.1 q hq
  have hee : e ≤ e' := by have := h4 q (hF.1.2.1 q hq); omega
  refine ⟨dif_lt h1, fun j hj => h2 j ((dif_t h1).mp hj).1, by omega, fun j hj => hF.2 j ((dif_t h1).mp hj).1 ((dif_t h1).mp hj).2, fun T hT hGd => ?_, fun σ T v hc => ?_⟩
  · obtain ⟨T1, g1⟩ := good_any (rd := rd) hE hg hA hlen hR.2.2.1 5 (dif blk (2 ^ q)) (by have := sm_bd (g := dif blk (2 ^ q)) (f := fun _ => 1) (c := 1) (fun _ _ => Nat.le_refl _); omega) (dif_lt b32) (fun j hj => hbg j ((dif_t b32).mp hj).1)
    refine h5 T (by omega) (good_comp h1 hF hq (fun j hj z => ?_) (fun a b ha hb => hR.2.2.1 a b (h2 a ha) (h2 b hb)) (fun j hj => hlen j (h2 j hj)) (fun _ _ => trivial) g1 hGd hT)
    rw [hE, hqf j hj] at z
    cases z
  · obtain ⟨j, t, d1, d2, d3, d4, d5⟩ := blk_low (rd := rd) (B := blk) (st := st) (T := T) v hg (val_rd hg hR hlen v) hbg b32 b0 (fun j hj => (hF.1.2.2.1 j hj).1) hlen hc
    have := hF.1.2.2.2.1
    omega
theorem SPP_end {k e : Nat} (hR : RdOK g rel len E rd) (h : SPP g rel rd len E k 0 e) : SpanIs g rel len E e := by
  obtain ⟨h1, h2, h3, h4, h5, h6⟩ := h
  obtain ⟨σ, v, -, hc⟩ := h5 e (Nat.le_refl _) (good_0 e)
  refine ⟨⟨σ, fun t ht => ?_, hc⟩, h6⟩
  obtain ⟨v1, v2, v3, v4, v5⟩ := v t ht
  exact ⟨v1, v2, Nat.le_trans (hR.2.1 _ v1) v3, v4, v5⟩
theorem SPP_5 {G e : Nat} (h : SPP g rel rd len E 5 G e) : G = 0 := Classical.byContradiction fun z => by
  have := sm_one h.1 z
  have := h.2.2.1
  omega
end SPAN
/-! plans may be loosened -/
def cutp (σ : Nat → Nat) (t : Nat) : Nat := if t < 34 then σ t else 5
theorem cutp_lt {σ : Nat → Nat} {t : Nat} (h : t < 34) : cutp σ t = σ t := if_pos h
theorem cutp_ge {σ : Nat → Nat} {t : Nat} (h : ¬ t < 34) : cutp σ t = 5 := if_neg h
theorem feas_ok {g : Nat} {rel len : Nat → Nat} {E ok ok' : Nat → Nat → Prop} (h : Feas g rel len E ok) (ho : ∀ j t, g.testBit j = true → t < 34 → ok j t → ok' j t) : Feas g rel len E ok' := by
  obtain ⟨σ, v, hc⟩ := h
  have key : ∀ j T, T ≤ 34 → cnt (cutp σ) j T = cnt σ j T := fun j T hT => cnt_same fun u hu => by rw [cutp_lt (by omega)]
  refine ⟨cutp σ, fun t ht => ?_, fun j hj => by rw [key j 34 (by omega)]; exact hc j hj⟩
  by_cases h34 : t < 34
  · rw [cutp_lt h34] at ht ⊢
    obtain ⟨v1, v2, v3, v4, v5⟩ := v t ht
    exact ⟨v1, by rw [key _ t (by omega)]; exact v2, v3, ho _ t v1 h34 v4, fun i hi hiE => by rw [key _ t (by omega)]; exact v5 i hi hiE⟩
  · rw [cutp_ge h34] at ht
    omega
theorem fe_mono {N : Nat → Nat → Nat} {i f f' g : Nat} {c : Int} (hf : f ≤ f') (hc : c < 100000) (h : FE N (i : Int) f g c) : FE N (i : Int) f' g c := by
  refine feas_ok h fun j t hj ht ho => ?_
  unfold okc cnow at ho ⊢
  by_cases h1 : (j : Int) = (i : Int) ∧ f' < t + 1
  · rw [if_pos ⟨h1.1, by omega⟩] at ho
    omega
  · rw [if_neg h1]
    by_cases h2 : (j : Int) = (i : Int) ∧ f < t + 1
    · rw [if_pos h2] at ho; omega
    · rw [if_neg h2] at ho; exact ho
/-- the binary search behind r rounds -/
def BSP (P : Nat → Prop) (r lo hi : Nat) : Prop := 1 ≤ lo ∧ lo ≤ hi ∧ hi ≤ 60 ∧ (∀ f, 1 ≤ f → f < lo → ¬ P f) ∧ (P hi ∨ hi = 60) ∧ hi - lo ≤ 59 / 2 ^ r
theorem half_le {a b : Nat} (h : a ≤ 59 / 2 ^ b) : a / 2 ≤ 59 / 2 ^ (b + 1) := by
  rw [Nat.pow_succ, ← Nat.div_div_eq_div_mul]
  omega
theorem BSP_t {P : Nat → Prop} {r lo hi : Nat} (h : BSP P r lo hi) (hl : lo < hi) (hp : P ((lo + hi) / 2)) : BSP P (r + 1) lo ((lo + hi) / 2) := by
  obtain ⟨h1, h2, h3, h4, h5, h6⟩ := h
  have := half_le h6
  exact ⟨h1, by omega, by omega, h4, Or.inl hp, by omega⟩
theorem BSP_f {P : Nat → Prop} {r lo hi : Nat} (hm : ∀ f f', f ≤ f' → P f → P f') (h : BSP P r lo hi) (hl : lo < hi) (hp : ¬ P ((lo + hi) / 2)) : BSP P (r + 1) ((lo + hi) / 2 + 1) hi := by
  obtain ⟨h1, h2, h3, h4, h5, h6⟩ := h
  have := half_le h6
  exact ⟨by omega, by omega, h3, fun f hf1 hf2 z => hp (hm f _ (by omega) z), h5, by omega⟩
theorem BSP_end {P : Nat → Prop} {r lo hi : Nat} (h : BSP P r lo hi) (he : 7 ≤ r ∨ hi ≤ lo) : 1 ≤ lo ∧ lo ≤ 60 ∧ (∀ f, 1 ≤ f → f < lo → ¬ P f) ∧ (P lo ∨ lo = 60) := by
  obtain ⟨h1, h2, h3, h4, h5, h6⟩ := h
  have : lo = hi := by
    rcases he with he | he
    · have : 2 ^ 7 ≤ 2 ^ r := Nat.pow_le_pow_right (by omega) he
      have : 59 / 2 ^ r = 0 := Nat.div_eq_of_lt (by omega)
      omega
    · omega
  subst this
  exact ⟨h1, h3, h4, h5⟩
/-- the search for the longest delay -/
def DLP (Q : Nat → Prop) (d gd a : Nat) : Prop := (gd = 1 ∧ a + 1 = d ∧ d ≤ 10 ∧ ∀ x, 1 ≤ x → x < d → Q x) ∨ (gd = 0 ∧ a + 2 = d ∧ d ≤ 10 ∧ (∀ x, 1 ≤ x → x ≤ a → Q x) ∧ ¬ Q (a + 1))
theorem DLP_end {Q : Nat → Prop} {d gd a : Nat} (h : DLP Q d gd a) (he : 9 < d ∨ gd = 0) : a ≤ 9 ∧ (∀ x, 1 ≤ x → x ≤ a → Q x) ∧ (a = 9 ∨ ¬ Q (a + 1)) := by
  rcases h with ⟨h1, h2, h3, h4⟩ | ⟨h1, h2, h3, h4, h5⟩
  · exact ⟨by omega, fun x x1 x2 => h4 x x1 (by omega), Or.inl (by omega)⟩
  · exact ⟨by omega, h4, Or.inr h5⟩
theorem sc_fol (M : Nat → Nat → Nat) (rd pd : Nat → Nat) (i f : Nat) : folN (sc M rd pd) i f = sc (folN M i f) rd pd := by
  funext q
  have e : sc M rd pd 6 = M 6 := rfl
  unfold folN
  rw [e]
  unfold sc va_up
  by_cases h6 : q = 6
  · subst h6; rfl
  · by_cases h7 : q = 7
    · subst h7; rfl
    · by_cases h8 : q = 8
      · subst h8; rfl
      · simp [h6, h7, h8]
end
section
theorem rel_sc (N : Nat → Nat → Nat) (rd pd : Nat → Nat) (i v x : Nat) : va_up (sc (relN N i v) rd pd) 1 (va_up (va_up (N 1) i v) i x) = sc (relN N i x) rd pd := by
  rw [up_up]
  funext q
  unfold relN sc va_up
  by_cases h1 : q = 1
  · subst h1; rfl
  · by_cases h7 : q = 7
    · subst h7; rfl
    · by_cases h8 : q = 8
      · subst h8; rfl
      · simp [h1, h7, h8]
theorem d_X_link_0 : decode b_X_link 0 = .ok (.aload_n 0, 1) := by decide +kernel
theorem d_X_link_1 : decode b_X_link 1 = .ok (.iload_n 1, 1) := by decide +kernel
theorem d_X_link_2 : decode b_X_link 2 = .ok (.invokevirtual 63, 3) := by decide +kernel
theorem d_X_link_5 : decode b_X_link 5 = .ok (.ifCond .eq 16, 3) := by decide +kernel
theorem d_X_link_8 : decode b_X_link 8 = .ok (.aload_n 0, 1) := by decide +kernel
theorem d_X_link_9 : decode b_X_link 9 = .ok (.iload_n 2, 1) := by decide +kernel
theorem d_X_link_10 : decode b_X_link 10 = .ok (.invokevirtual 63, 3) := by decide +kernel
theorem d_X_link_13 : decode b_X_link 13 = .ok (.ifCond .eq 8, 3) := by decide +kernel
theorem d_X_link_16 : decode b_X_link 16 = .ok (.iload_n 1, 1) := by decide +kernel
theorem d_X_link_17 : decode b_X_link 17 = .ok (.iload_n 2, 1) := by decide +kernel
theorem d_X_link_18 : decode b_X_link 18 = .ok (.if_icmp .ne 5, 3) := by decide +kernel
theorem d_X_link_21 : decode b_X_link 21 = .ok (.iconst (-1), 1) := by decide +kernel
theorem d_X_link_22 : decode b_X_link 22 = .ok (.ireturn, 1) := by decide +kernel
theorem d_X_link_23 : decode b_X_link 23 = .ok (.aload_n 0, 1) := by decide +kernel
theorem d_X_link_24 : decode b_X_link 24 = .ok (.iload_n 1, 1) := by decide +kernel
theorem d_X_link_25 : decode b_X_link 25 = .ok (.iload_n 2, 1) := by decide +kernel
theorem d_X_link_26 : decode b_X_link 26 = .ok (.invokevirtual 67, 3) := by decide +kernel
theorem d_X_link_29 : decode b_X_link 29 = .ok (.ifCond .eq 5, 3) := by decide +kernel
theorem d_X_link_32 : decode b_X_link 32 = .ok (.iconst 0, 1) := by decide +kernel
theorem d_X_link_33 : decode b_X_link 33 = .ok (.ireturn, 1) := by decide +kernel
theorem d_X_link_34 : decode b_X_link 34 = .ok (.aload_n 0, 1) := by decide +kernel
theorem d_X_link_35 : decode b_X_link 35 = .ok (.iload_n 2, 1) := by decide +kernel
theorem d_X_link_36 : decode b_X_link 36 = .ok (.invokevirtual 71, 3) := by decide +kernel
theorem d_X_link_39 : decode b_X_link 39 = .ok (.istore_n 3, 1) := by decide +kernel
theorem d_X_link_40 : decode b_X_link 40 = .ok (.iload_n 3, 1) := by decide +kernel
theorem d_X_link_41 : decode b_X_link 41 = .ok (.iload_n 1, 1) := by decide +kernel
theorem d_X_link_42 : decode b_X_link 42 = .ok (.ishr, 1) := by decide +kernel
theorem d_X_link_43 : decode b_X_link 43 = .ok (.iconst 1, 1) := by decide +kernel
theorem d_X_link_44 : decode b_X_link 44 = .ok (.iand, 1) := by decide +kernel
theorem d_X_link_45 : decode b_X_link 45 = .ok (.ifCond .eq 6, 3) := by decide +kernel
theorem d_X_link_48 : decode b_X_link 48 = .ok (.bipush (-4), 2) := by decide +kernel
theorem d_X_link_50 : decode b_X_link 50 = .ok (.ireturn, 1) := by decide +kernel
theorem d_X_link_51 : decode b_X_link 51 = .ok (.aload_n 0, 1) := by decide +kernel
theorem d_X_link_52 : decode b_X_link 52 = .ok (.getfield 25, 3) := by decide +kernel
theorem d_X_link_55 : decode b_X_link 55 = .ok (.iload_n 1, 1) := by decide +kernel
theorem d_X_link_56 : decode b_X_link 56 = .ok (.aload_n 0, 1) := by decide +kernel
theorem d_X_link_57 : decode b_X_link 57 = .ok (.getfield 25, 3) := by decide +kernel
theorem d_X_link_60 : decode b_X_link 60 = .ok (.iload_n 1, 1) := by decide +kernel
theorem d_X_link_61 : decode b_X_link 61 = .ok (.baload, 1) := by decide +kernel
theorem d_X_link_62 : decode b_X_link 62 = .ok (.iconst 1, 1) := by decide +kernel
theorem d_X_link_63 : decode b_X_link 63 = .ok (.iload_n 2, 1) := by decide +kernel
theorem d_X_link_64 : decode b_X_link 64 = .ok (.ishl, 1) := by decide +kernel
theorem d_X_link_65 : decode b_X_link 65 = .ok (.ior, 1) := by decide +kernel
theorem d_X_link_66 : decode b_X_link 66 = .ok (.i2b, 1) := by decide +kernel
theorem d_X_link_67 : decode b_X_link 67 = .ok (.bastore, 1) := by decide +kernel
theorem d_X_link_68 : decode b_X_link 68 = .ok (.aload_n 0, 1) := by decide +kernel
theorem d_X_link_69 : decode b_X_link 69 = .ok (.invokevirtual 59, 3) := by decide +kernel
theorem d_X_link_72 : decode b_X_link 72 = .ok (.ifCond .eq 5, 3) := by decide +kernel
theorem d_X_link_75 : decode b_X_link 75 = .ok (.iconst 0, 1) := by decide +kernel
theorem d_X_link_76 : decode b_X_link 76 = .ok (.ireturn, 1) := by decide +kernel
theorem d_X_link_77 : decode b_X_link 77 = .ok (.aload_n 0, 1) := by decide +kernel
theorem d_X_link_78 : decode b_X_link 78 = .ok (.getfield 25, 3) := by decide +kernel
theorem d_X_link_81 : decode b_X_link 81 = .ok (.iload_n 1, 1) := by decide +kernel
theorem d_X_link_82 : decode b_X_link 82 = .ok (.aload_n 0, 1) := by decide +kernel
theorem d_X_link_83 : decode b_X_link 83 = .ok (.getfield 25, 3) := by decide +kernel
theorem d_X_link_86 : decode b_X_link 86 = .ok (.iload_n 1, 1) := by decide +kernel
theorem d_X_link_87 : decode b_X_link 87 = .ok (.baload, 1) := by decide +kernel
theorem d_X_link_88 : decode b_X_link 88 = .ok (.iconst 1, 1) := by decide +kernel
theorem d_X_link_89 : decode b_X_link 89 = .ok (.iload_n 2, 1) := by decide +kernel
theorem d_X_link_90 : decode b_X_link 90 = .ok (.ishl, 1) := by decide +kernel
theorem d_X_link_91 : decode b_X_link 91 = .ok (.iconst (-1), 1) := by decide +kernel
theorem d_X_link_92 : decode b_X_link 92 = .ok (.ixor, 1) := by decide +kernel
theorem d_X_link_93 : decode b_X_link 93 = .ok (.iand, 1) := by decide +kernel
theorem d_X_link_94 : decode b_X_link 94 = .ok (.i2b, 1) := by decide +kernel
theorem d_X_link_95 : decode b_X_link 95 = .ok (.bastore, 1) := by decide +kernel
theorem d_X_link_96 : decode b_X_link 96 = .ok (.bipush (-3), 2) := by decide +kernel
theorem d_X_link_98 : decode b_X_link 98 = .ok (.ireturn, 1) := by decide +kernel
def LnkX (cp : Nat) (cap : Int) (pr : Nat) (fo : Int) (fb : Nat) (N : Nat → Nat → Nat) (x y res : Int32) (N' : Nat → Nat → Nat) : Prop := (res = (-1) ∧ N' = N ∧ (¬ hld cp pr x ∨ ¬ hld cp pr y ∨ x = y)) ∨ ∃ i j, x = nI i ∧ y = nI j ∧ i ≠ j ∧ i < cp ∧ j < cp ∧ pr.testBit i = true ∧ pr.testBit j = true ∧ ((res = nI 0 ∧ N' = N ∧ (N 6 i).testBit j = true) ∨ ((N 6 i).testBit j = false ∧ ((res = (-4) ∧ N' = N ∧ Rc (EX pr (N 6)) j i) ∨ (¬ Rc (EX pr (N 6)) j i ∧ ((res = nI 0 ∧ N' = folN N i (N 6 i ||| 2 ^ j) ∧ FE N' fo fb pr cap) ∨ (res = (-3) ∧ N' = N ∧ ¬ FE (folN N i (N 6 i ||| 2 ^ j)) fo fb pr cap))))))
set_option maxHeartbeats 4000000 in
set_option maxRecDepth 100000 in
/-- link(x, y) -/
theorem c_X_link (l : Launch) (D : va_G) (h : Nat → Nat) (cs : Nat → ClassId) {cp : Nat} {cap : Int} {pr : Nat} {fo : Int} {fb pn be : Nat} {N : Nat → Nat → Nat} {rk : Nat → Nat} (hcp : cp ≤ 5) (hpr : pr < 32) (hN : okN N) (hlen : ∀ j, pr.testBit j = true → 1 ≤ N 2 j) (hA : Acy pr (N 6) rk) (hfo : -1 ≤ fo ∧ fo < 5) (hfb : fb ≤ 60) (hcap : -200 ≤ cap ∧ cap ≤ 1000) (hsub : ∀ a, pr.testBit a = true → ∀ v, (N 6 a).testBit v = true → pr.testBit v = true) (x y : Int32) : CI l y_X_link b_X_link 4 .int 5 D (tysX cs) (wX h cs) (cp, cap, pr, fo, fb, pn, be, N) [.ref (h 0), .int x, .int y] (fun res u' => ∃ N' pn' be' rd pd, u' = (cp, cap, pr, fo, fb, pn', be', sc N' rd pd) ∧ LnkX cp cap pr fo fb N x y res N') := by
  refine CI_of ok_X_link (Nat.le_of_ble_eq_true rfl) (cat_all rfl) ?_
  intro K C hret
  have C : Kok D (tysX cs) K b_X_link 4 R_X 5 := C
  refine j_aload_n C d_X_link_0 (a := h 0) rfl ?_
  refine j_iload_n C d_X_link_1 (x := x) rfl ?_
  refine j_calli C (c_X_holds l D h cs hcp hpr x) (As := [.int x]) (rest := []) ok_X_holds ml_X_63 (by decide) d_X_link_2 (q0 := 0) rfl rfl rfl rfl (Nat.le_of_ble_eq_true rfl) ?_
  intro r_2 u' hp
  obtain ⟨rfl, hp_2⟩ := hp
  refine j_if_eq C d_X_link_5 (tgt := 21) (by decide) (rfl) (fun c_5 => ?_) (fun c_5 => ?_)
  · have t_5 := bool_f hp_2 c_5
    refine j_iconst C d_X_link_21 (v := (-1)) (by decide) ?_
    exact hret _ _ _ _ d_X_link_22 rfl ⟨N, pn, be, N 7, N 8, by rw [sc_self], Or.inl ⟨rfl, rfl, by first | exact Or.inl t_5 | exact Or.inr (Or.inl t_13) | exact Or.inr (Or.inr (Int32.toInt_inj.mp c_18))⟩⟩
  · have t_5 := bool_t hp_2 c_5
    refine j_aload_n C d_X_link_8 (a := h 0) rfl ?_
    refine j_iload_n C d_X_link_9 (x := y) rfl ?_
    refine j_calli C (c_X_holds l D h cs hcp hpr y) (As := [.int y]) (rest := []) ok_X_holds ml_X_63 (by decide) d_X_link_10 (q0 := 0) rfl rfl rfl rfl (Nat.le_of_ble_eq_true rfl) ?_
    intro r_10 u' hp
    obtain ⟨rfl, hp_10⟩ := hp
    refine j_if_eq C d_X_link_13 (tgt := 21) (by decide) (rfl) (fun c_13 => ?_) (fun c_13 => ?_)
    · have t_13 := bool_f hp_10 c_13
      refine j_iconst C d_X_link_21 (v := (-1)) (by decide) ?_
      exact hret _ _ _ _ d_X_link_22 rfl ⟨N, pn, be, N 7, N 8, by rw [sc_self], Or.inl ⟨rfl, rfl, by first | exact Or.inl t_5 | exact Or.inr (Or.inl t_13) | exact Or.inr (Or.inr (Int32.toInt_inj.mp c_18))⟩⟩
    · have t_13 := bool_t hp_10 c_13
      refine j_iload_n C d_X_link_16 (x := x) rfl ?_
      refine j_iload_n C d_X_link_17 (x := y) rfl ?_
      refine j_icmp_ne C d_X_link_18 (tgt := 23) (by decide) (rfl) (rfl) (fun c_18 => ?_) (fun c_18 => ?_)
      · obtain ⟨i, hi, rfl, hbi⟩ := t_5
        obtain ⟨j, hj, rfl, hbj⟩ := t_13
        rw [tI i (by omega), tI j (by omega)] at c_18
        have hij : i ≠ j := by omega
        have h6 := (hN i (by omega)).2.2.2.2.2
        have hp2 := pow_lt (show j < 5 by omega)
        have hor := or_lt h6 hp2
        refine j_aload_n C d_X_link_23 (a := h 0) rfl ?_
        refine j_iload_n C d_X_link_24 (x := nI i) rfl ?_
        refine j_iload_n C d_X_link_25 (x := nI j) rfl ?_
        refine j_calli C (c_X_linked l D h cs hcp hpr hN (nI i) (nI j)) (As := [.int (nI i), .int (nI j)]) (rest := []) ok_X_linked ml_X_67 (by decide) d_X_link_26 (q0 := 0) rfl rfl rfl rfl (Nat.le_of_ble_eq_true rfl) ?_
        intro r_26 u' hp
        obtain ⟨rfl, hp_26⟩ := hp
        refine j_if_eq C d_X_link_29 (tgt := 34) (by decide) (rfl) (fun c_29 => ?_) (fun c_29 => ?_)
        · have t_29 := bool_f hp_26 c_29
          have hnb : (N 6 i).testBit j = false := by
            cases hz : (N 6 i).testBit j
            · rfl
            · exact absurd ⟨i, j, rfl, rfl, hi, hj, hbi, hbj, hz⟩ t_29
          refine j_aload_n C d_X_link_34 (a := h 0) rfl ?_
          refine j_iload_n C d_X_link_35 (x := nI j) rfl ?_
          refine j_calli C (c_X_reachable l D h cs hbj hpr hN hsub hA) (As := [.int (nI j)]) (rest := []) ok_X_reachable ml_X_71 (by decide) d_X_link_36 (q0 := 0) rfl rfl rfl rfl (Nat.le_of_ble_eq_true rfl) ?_
          intro r u' hq
          obtain ⟨rfl, s, rfl, hs32, hs⟩ := hq
          have hsi := hs i (by omega)
          refine j_istore_n C d_X_link_39 (Nat.le_of_ble_eq_true rfl) (Nat.le_of_ble_eq_true rfl) (L' := [.ref (h 0), .int (nI i), .int (nI j), .int (nI s)]) rfl ?_
          refine j_iload_n C d_X_link_40 (x := nI s) rfl ?_
          refine j_iload_n C d_X_link_41 (x := nI i) rfl ?_
          refine j_ishr C d_X_link_42 (z := nI (s / 2 ^ i)) (nI_shr (by omega) (by omega)) ?_
          refine j_iconst C d_X_link_43 (v := nI 1) (by decide) ?_
          refine j_iand C d_X_link_44 (z := nI (tb s i)) (nI_bit (by omega)) ?_
          refine j_if_eq C d_X_link_45 (tgt := 51) (by decide) (tI _ (tb_lt _ _)) (fun c_45 => ?_) (fun c_45 => ?_)
          · have b_45 : Nat.testBit s i = false := tb_f c_45
            have hnr : ¬ Rc (EX pr (N 6)) j i := fun z => by have := hsi.mpr z; rw [b_45] at this; cases this
            obtain ⟨rk', hA'⟩ := acy_link hpr hA hbi hbj hnr
            refine j_aload_n C d_X_link_51 (a := h 0) rfl ?_
            refine x_get C 8 (v := .ref (h 6)) d_X_link_52 (by decide) fl_X_8 rfl ?_
            refine j_iload_n C d_X_link_55 (x := nI i) rfl ?_
            refine j_aload_n C d_X_link_56 (a := h 0) rfl ?_
            refine x_get C 8 (v := .ref (h 6)) d_X_link_57 (by decide) fl_X_8 rfl ?_
            refine j_iload_n C d_X_link_60 (x := nI i) rfl ?_
            refine j_bald C 6 5 (f := fun ξ => nI ((N 6) ξ)) (i := i) (v := nI (N 6 i)) d_X_link_61 rfl rfl (by omega) (by decide) rfl ?_
            refine j_iconst C d_X_link_62 (v := nI 1) (by decide) ?_
            refine j_iload_n C d_X_link_63 (x := nI j) rfl ?_
            refine j_ishl C d_X_link_64 (z := nI (2 ^ j)) (nI_shl1 (by omega)) ?_
            refine j_ior C d_X_link_65 (z := nI ((N 6 i) ||| (2 ^ j))) (nI_or _ _) ?_
            refine j_i2b C d_X_link_66 (z := nI ((N 6 i) ||| (2 ^ j))) (b_byte (by omega)) ?_
            refine j_bast C 6 5 (g := N 6) (i := i) (v := (N 6 i) ||| (2 ^ j)) (u' := (cp, cap, pr, fo, fb, pn, be, va_up N 6 (va_up (N 6) i ((N 6 i) ||| (2 ^ j))))) d_X_link_67 rfl rfl (by omega) (by decide) (by omega) rfl ?_
            refine j_aload_n C d_X_link_68 (a := h 0) rfl ?_
            refine j_calli C (c_X_withinCap l D h cs (N := folN N i (N 6 i ||| 2 ^ j)) (rk := rk') hpr (okN_fol hN hor) hlen hA' hfo hfb hcap) (As := []) (rest := []) ok_X_withinCap ml_X_59 (by decide) d_X_link_69 (q0 := 0) rfl rfl rfl rfl (Nat.le_of_ble_eq_true rfl) ?_
            intro r_69 u' hq3
            obtain ⟨pn', be', rd, pd, rfl, hp_69⟩ := hq3
            refine j_if_eq C d_X_link_72 (tgt := 77) (by decide) (rfl) (fun c_72 => ?_) (fun c_72 => ?_)
            · have t_72 := bool_f hp_69 c_72
              refine j_aload_n C d_X_link_77 (a := h 0) rfl ?_
              refine x_get C 8 (v := .ref (h 6)) d_X_link_78 (by decide) fl_X_8 rfl ?_
              refine j_iload_n C d_X_link_81 (x := nI i) rfl ?_
              refine j_aload_n C d_X_link_82 (a := h 0) rfl ?_
              refine x_get C 8 (v := .ref (h 6)) d_X_link_83 (by decide) fl_X_8 rfl ?_
              refine j_iload_n C d_X_link_86 (x := nI i) rfl ?_
              refine j_bald C 6 5 (f := fun ξ => nI ((va_up (N 6) i (N 6 i ||| 2 ^ j)) ξ)) (i := i) (v := nI (N 6 i ||| 2 ^ j)) d_X_link_87 rfl rfl (by omega) (by decide) (congrArg nI (va_up_self _ _ _)) ?_
              refine j_iconst C d_X_link_88 (v := nI 1) (by decide) ?_
              refine j_iload_n C d_X_link_89 (x := nI j) rfl ?_
              refine j_ishl C d_X_link_90 (z := nI (2 ^ j)) (nI_shl1 (by omega)) ?_
              refine j_iconst C d_X_link_91 (v := (-1)) (by decide) ?_
              refine j_ixor C d_X_link_92 (z := nI (2 ^ j) ^^^ (-1)) (rfl) ?_
              refine j_iand C d_X_link_93 (z := nI (dif (N 6 i ||| 2 ^ j) (2 ^ j))) (nI_dif (by omega) (by omega)) ?_
              have hdl := dif_lt (b := 2 ^ j) hor
              refine j_i2b C d_X_link_94 (z := nI (dif (N 6 i ||| 2 ^ j) (2 ^ j))) (b_byte (by omega)) ?_
              refine j_bast C 6 5 (g := va_up (N 6) i (N 6 i ||| 2 ^ j)) (i := i) (v := dif (N 6 i ||| 2 ^ j) (2 ^ j)) (u' := (cp, cap, pr, fo, fb, pn', be', va_up (sc (folN N i (N 6 i ||| 2 ^ j)) rd pd) 6 (va_up (va_up (N 6) i (N 6 i ||| 2 ^ j)) i (dif (N 6 i ||| 2 ^ j) (2 ^ j))))) d_X_link_95 rfl rfl (by omega) (by decide) (by omega) rfl ?_
              refine j_bipush C d_X_link_96 (v := (-3)) (by decide) ?_
              refine j_same (u' := (cp, cap, pr, fo, fb, pn', be', sc (folN (folN N i (N 6 i ||| 2 ^ j)) i (dif (N 6 i ||| 2 ^ j) (2 ^ j))) rd pd)) rfl ?_
              rw [fol_back N i _ _ (or_dif h6 (by omega) hnb)]
              exact hret _ _ _ _ d_X_link_98 rfl ⟨_, pn', be', rd, pd, rfl, Or.inr ⟨i, j, rfl, rfl, hij, hi, hj, hbi, hbj,  Or.inr ⟨hnb, Or.inr ⟨hnr, Or.inr ⟨rfl, rfl, t_72⟩⟩⟩⟩⟩
            · have t_72 := bool_t hp_69 c_72
              refine j_iconst C d_X_link_75 (v := nI 0) (by decide) ?_
              exact hret _ _ _ _ d_X_link_76 rfl ⟨_, pn', be', rd, pd, rfl, Or.inr ⟨i, j, rfl, rfl, hij, hi, hj, hbi, hbj,  Or.inr ⟨hnb, Or.inr ⟨hnr, Or.inl ⟨rfl, rfl, t_72⟩⟩⟩⟩⟩
          · have b_45 : Nat.testBit s i = true := tb_t c_45
            refine j_bipush C d_X_link_48 (v := (-4)) (by decide) ?_
            exact hret _ _ _ _ d_X_link_50 rfl ⟨N, pn, be, N 7, N 8, by rw [sc_self], Or.inr ⟨i, j, rfl, rfl, hij, hi, hj, hbi, hbj,  Or.inr ⟨hnb, Or.inl ⟨rfl, rfl, hsi.mp b_45⟩⟩⟩⟩
        · have t_29 := bool_t hp_26 c_29
          refine j_iconst C d_X_link_32 (v := nI 0) (by decide) ?_
          exact hret _ _ _ _ d_X_link_33 rfl ⟨N, pn, be, N 7, N 8, by rw [sc_self], Or.inr ⟨i, j, rfl, rfl, hij, hi, hj, hbi, hbj,  Or.inl ⟨rfl, rfl, lkd_n hcp (by omega) (by omega) t_29⟩⟩⟩
      · refine j_iconst C d_X_link_21 (v := (-1)) (by decide) ?_
        exact hret _ _ _ _ d_X_link_22 rfl ⟨N, pn, be, N 7, N 8, by rw [sc_self], Or.inl ⟨rfl, rfl, by first | exact Or.inl t_5 | exact Or.inr (Or.inl t_13) | exact Or.inr (Or.inr (Int32.toInt_inj.mp c_18))⟩⟩
theorem d_X_remove_0 : decode b_X_remove 0 = .ok (.aload_n 0, 1) := by decide +kernel
theorem d_X_remove_1 : decode b_X_remove 1 = .ok (.iload_n 1, 1) := by decide +kernel
theorem d_X_remove_2 : decode b_X_remove 2 = .ok (.invokevirtual 63, 3) := by decide +kernel
theorem d_X_remove_5 : decode b_X_remove 5 = .ok (.ifCond .ne 5, 3) := by decide +kernel
theorem d_X_remove_8 : decode b_X_remove 8 = .ok (.iconst 0, 1) := by decide +kernel
theorem d_X_remove_9 : decode b_X_remove 9 = .ok (.ireturn, 1) := by decide +kernel
theorem d_X_remove_10 : decode b_X_remove 10 = .ok (.aload_n 0, 1) := by decide +kernel
theorem d_X_remove_11 : decode b_X_remove 11 = .ok (.dup, 1) := by decide +kernel
theorem d_X_remove_12 : decode b_X_remove 12 = .ok (.getfield 56, 3) := by decide +kernel
theorem d_X_remove_15 : decode b_X_remove 15 = .ok (.iconst 1, 1) := by decide +kernel
theorem d_X_remove_16 : decode b_X_remove 16 = .ok (.iload_n 1, 1) := by decide +kernel
theorem d_X_remove_17 : decode b_X_remove 17 = .ok (.ishl, 1) := by decide +kernel
theorem d_X_remove_18 : decode b_X_remove 18 = .ok (.iconst (-1), 1) := by decide +kernel
theorem d_X_remove_19 : decode b_X_remove 19 = .ok (.ixor, 1) := by decide +kernel
theorem d_X_remove_20 : decode b_X_remove 20 = .ok (.iand, 1) := by decide +kernel
theorem d_X_remove_21 : decode b_X_remove 21 = .ok (.putfield 56, 3) := by decide +kernel
theorem d_X_remove_24 : decode b_X_remove 24 = .ok (.aload_n 0, 1) := by decide +kernel
theorem d_X_remove_25 : decode b_X_remove 25 = .ok (.getfield 25, 3) := by decide +kernel
theorem d_X_remove_28 : decode b_X_remove 28 = .ok (.iload_n 1, 1) := by decide +kernel
theorem d_X_remove_29 : decode b_X_remove 29 = .ok (.iconst 0, 1) := by decide +kernel
theorem d_X_remove_30 : decode b_X_remove 30 = .ok (.bastore, 1) := by decide +kernel
theorem d_X_remove_31 : decode b_X_remove 31 = .ok (.iconst 0, 1) := by decide +kernel
theorem d_X_remove_32 : decode b_X_remove 32 = .ok (.istore_n 2, 1) := by decide +kernel
theorem d_X_remove_33 : decode b_X_remove 33 = .ok (.iload_n 2, 1) := by decide +kernel
theorem d_X_remove_34 : decode b_X_remove 34 = .ok (.iconst 5, 1) := by decide +kernel
theorem d_X_remove_35 : decode b_X_remove 35 = .ok (.if_icmp .ge 28, 3) := by decide +kernel
theorem d_X_remove_38 : decode b_X_remove 38 = .ok (.aload_n 0, 1) := by decide +kernel
theorem d_X_remove_39 : decode b_X_remove 39 = .ok (.getfield 25, 3) := by decide +kernel
theorem d_X_remove_42 : decode b_X_remove 42 = .ok (.iload_n 2, 1) := by decide +kernel
theorem d_X_remove_43 : decode b_X_remove 43 = .ok (.aload_n 0, 1) := by decide +kernel
theorem d_X_remove_44 : decode b_X_remove 44 = .ok (.getfield 25, 3) := by decide +kernel
theorem d_X_remove_47 : decode b_X_remove 47 = .ok (.iload_n 2, 1) := by decide +kernel
theorem d_X_remove_48 : decode b_X_remove 48 = .ok (.baload, 1) := by decide +kernel
theorem d_X_remove_49 : decode b_X_remove 49 = .ok (.iconst 1, 1) := by decide +kernel
theorem d_X_remove_50 : decode b_X_remove 50 = .ok (.iload_n 1, 1) := by decide +kernel
theorem d_X_remove_51 : decode b_X_remove 51 = .ok (.ishl, 1) := by decide +kernel
theorem d_X_remove_52 : decode b_X_remove 52 = .ok (.iconst (-1), 1) := by decide +kernel
theorem d_X_remove_53 : decode b_X_remove 53 = .ok (.ixor, 1) := by decide +kernel
theorem d_X_remove_54 : decode b_X_remove 54 = .ok (.iand, 1) := by decide +kernel
theorem d_X_remove_55 : decode b_X_remove 55 = .ok (.i2b, 1) := by decide +kernel
theorem d_X_remove_56 : decode b_X_remove 56 = .ok (.bastore, 1) := by decide +kernel
theorem d_X_remove_57 : decode b_X_remove 57 = .ok (.iinc 2 1, 3) := by decide +kernel
theorem d_X_remove_60 : decode b_X_remove 60 = .ok (.goto (-27), 3) := by decide +kernel
theorem d_X_remove_63 : decode b_X_remove 63 = .ok (.iconst 1, 1) := by decide +kernel
theorem d_X_remove_64 : decode b_X_remove 64 = .ok (.ireturn, 1) := by decide +kernel
def rmP (f0 : Nat → Nat) (b k : Nat) (f : Nat → Nat) : Prop := ∀ q, f q = if q < k then dif (f0 q) b else f0 q
theorem rmP_0 (f0 : Nat → Nat) (b : Nat) : rmP f0 b 0 f0 := fun q => (if_neg (by omega)).symm
theorem rmP_at {f0 f : Nat → Nat} {b k : Nat} (h : rmP f0 b k f) : f k = f0 k := by rw [h k, if_neg (by omega)]
theorem rmP_set {f0 f : Nat → Nat} {b k : Nat} (h : rmP f0 b k f) : rmP f0 b (k + 1) (va_up f k (dif (f k) b)) := by
  intro q
  by_cases hq : q = k
  · subst hq
    rw [va_up_self, if_pos (by omega), rmP_at h]
  · rw [va_up_ne _ _ hq, h q]
    by_cases hc : q < k
    · rw [if_pos hc, if_pos (by omega)]
    · rw [if_neg hc, if_neg (by omega)]
set_option maxHeartbeats 4000000 in
set_option maxRecDepth 100000 in
/-- remove(x) -/
theorem c_X_remove (l : Launch) (D : va_G) (h : Nat → Nat) (cs : Nat → ClassId) {cp : Nat} {cap : Int} {pr : Nat} {fo : Int} {fb pn be : Nat} {N : Nat → Nat → Nat} (hcp : cp ≤ 5) (hpr : pr < 32) (hN : okN N) (x : Int32) : CI l y_X_remove b_X_remove 3 .boolean 1 D (tysX cs) (wX h cs) (cp, cap, pr, fo, fb, pn, be, N) [.ref (h 0), .int x] (fun r u' => (r = nI 0 ∧ u' = (cp, cap, pr, fo, fb, pn, be, N) ∧ ¬ hld cp pr x) ∨ ∃ i, x = nI i ∧ i < cp ∧ pr.testBit i = true ∧ r = nI 1 ∧ ∃ f, u' = (cp, cap, dif pr (2 ^ i), fo, fb, pn, be, va_up N 6 f) ∧ rmP (va_up (N 6) i 0) (2 ^ i) 5 f) := by
  refine CI_of ok_X_remove (Nat.le_of_ble_eq_true rfl) (cat_all rfl) ?_
  intro K C hret
  have C : Kok D (tysX cs) K b_X_remove 3 R_X 1 := C
  refine j_aload_n C d_X_remove_0 (a := h 0) rfl ?_
  refine j_iload_n C d_X_remove_1 (x := x) rfl ?_
  refine j_calli C (c_X_holds l D h cs hcp hpr x) (As := [.int x]) (rest := []) ok_X_holds ml_X_63 (by decide) d_X_remove_2 (q0 := 0) rfl rfl rfl rfl (Nat.le_of_ble_eq_true rfl) ?_
  intro r_2 u' hp
  obtain ⟨rfl, hp_2⟩ := hp
  refine j_if_ne C d_X_remove_5 (tgt := 10) (by decide) (rfl) (fun c_5 => ?_) (fun c_5 => ?_)
  · have t_5 := bool_t hp_2 c_5
    obtain ⟨i, hi, rfl, hbi⟩ := t_5
    have hp2 := pow_lt (show i < 5 by omega)
    have hf0 := up_bd (f := N 6) (i := i) (v := 0) (c := 31) (okN_6 hN) (by omega)
    refine j_aload_n C d_X_remove_10 (a := h 0) rfl ?_
    refine j_dup C d_X_remove_11 rfl ?_
    refine x_get C 2 (v := .int (nI pr)) d_X_remove_12 (by decide) fl_X_2 rfl ?_
    refine j_iconst C d_X_remove_15 (v := nI 1) (by decide) ?_
    refine j_iload_n C d_X_remove_16 (x := nI i) rfl ?_
    refine j_ishl C d_X_remove_17 (z := nI (2 ^ i)) (nI_shl1 (by omega)) ?_
    refine j_iconst C d_X_remove_18 (v := (-1)) (by decide) ?_
    refine j_ixor C d_X_remove_19 (z := nI (2 ^ i) ^^^ (-1)) (rfl) ?_
    refine j_iand C d_X_remove_20 (z := nI (dif pr (2 ^ i))) (nI_dif (by omega) (by omega)) ?_
    refine x_put C 2 (u' := (cp, cap, dif pr (2 ^ i), fo, fb, pn, be, N)) d_X_remove_21 (by decide) fl_X_2 rfl rfl rfl ?_
    refine j_aload_n C d_X_remove_24 (a := h 0) rfl ?_
    refine x_get C 8 (v := .ref (h 6)) d_X_remove_25 (by decide) fl_X_8 rfl ?_
    refine j_iload_n C d_X_remove_28 (x := nI i) rfl ?_
    refine j_iconst C d_X_remove_29 (v := nI 0) (by decide) ?_
    refine j_bast C 6 5 (g := N 6) (i := i) (v := 0) (u' := (cp, cap, dif pr (2 ^ i), fo, fb, pn, be, va_up N 6 (va_up (N 6) i 0))) d_X_remove_30 rfl rfl (by omega) (by decide) (by omega) rfl ?_
    refine j_iconst C d_X_remove_31 (v := nI 0) (by decide) ?_
    refine j_istore_n C d_X_remove_32 (Nat.le_of_ble_eq_true rfl) (Nat.le_of_ble_eq_true rfl) (L' := [.ref (h 0), .int (nI i), .int (nI 0)]) rfl ?_
    have key : ∀ k, k ≤ 5 → ∀ f, rmP (va_up (N 6) i 0) (2 ^ i) k f → J l D K (wX h cs) (cp, cap, dif pr (2 ^ i), fo, fb, pn, be, va_up N 6 f) 33 [.ref (h 0), .int (nI i), .int (nI k)] [] := by
      refine up_ind 5 ?_
      intro k hk ih f hF
      have hfk := rmP_at hF
      refine j_iload_n C d_X_remove_33 (x := nI k) rfl ?_
      refine j_iconst C d_X_remove_34 (v := nI 5) (by decide) ?_
      refine j_icmp_ge C d_X_remove_35 (tgt := 63) (by decide) (tI k (by omega)) (tI 5 (by decide)) (fun c_35 => ?_) (fun c_35 => ?_)
      · obtain rfl : k = 5 := by omega
        refine j_iconst C d_X_remove_63 (v := nI 1) (by decide) ?_
        exact hret _ _ _ _ d_X_remove_64 rfl (Or.inr ⟨i, rfl, hi, hbi, rfl, f, rfl, hF⟩)
      · refine j_aload_n C d_X_remove_38 (a := h 0) rfl ?_
        refine x_get C 8 (v := .ref (h 6)) d_X_remove_39 (by decide) fl_X_8 rfl ?_
        refine j_iload_n C d_X_remove_42 (x := nI k) rfl ?_
        refine j_aload_n C d_X_remove_43 (a := h 0) rfl ?_
        refine x_get C 8 (v := .ref (h 6)) d_X_remove_44 (by decide) fl_X_8 rfl ?_
        refine j_iload_n C d_X_remove_47 (x := nI k) rfl ?_
        have hb31 := hf0 k (by omega)
        refine j_bald C 6 5 (f := fun ξ => nI (f ξ)) (i := k) (v := nI (f k)) d_X_remove_48 rfl rfl (by omega) (by decide) rfl ?_
        refine j_iconst C d_X_remove_49 (v := nI 1) (by decide) ?_
        refine j_iload_n C d_X_remove_50 (x := nI i) rfl ?_
        refine j_ishl C d_X_remove_51 (z := nI (2 ^ i)) (nI_shl1 (by omega)) ?_
        refine j_iconst C d_X_remove_52 (v := (-1)) (by decide) ?_
        refine j_ixor C d_X_remove_53 (z := nI (2 ^ i) ^^^ (-1)) (rfl) ?_
        refine j_iand C d_X_remove_54 (z := nI (dif (f k) (2 ^ i))) (nI_dif (by omega) (by omega)) ?_
        have hdl : dif (f k) (2 ^ i) < 32 := dif_lt (by omega)
        refine j_i2b C d_X_remove_55 (z := nI (dif (f k) (2 ^ i))) (b_byte (by omega)) ?_
        refine j_bast C 6 5 (g := f) (i := k) (v := dif (f k) (2 ^ i)) (u' := (cp, cap, dif pr (2 ^ i), fo, fb, pn, be, va_up N 6 (va_up f k (dif (f k) (2 ^ i))))) d_X_remove_56 rfl rfl (by omega) (by decide) (by omega) rfl ?_
        refine j_iinc C d_X_remove_57 (Nat.le_of_ble_eq_true rfl) (x := nI k) (v := nI (k + 1)) rfl (nI_add _ _) (L' := [.ref (h 0), .int (nI i), .int (nI (k + 1))]) rfl ?_
        refine j_goto C d_X_remove_60 (tgt := 33) (by decide) ?_
        exact ih (by omega) _ (rmP_set hF)
    exact key 0 (by omega) _ (rmP_0 _ _)
  · have t_5 := bool_f hp_2 c_5
    refine j_iconst C d_X_remove_8 (v := nI 0) (by decide) ?_
    exact hret _ _ _ _ d_X_remove_9 rfl (Or.inl ⟨rfl, rfl, t_5⟩)
/-- v is the least greatest cost of the jobs g -/
def OptX (N : Nat → Nat → Nat) (fo : Int) (fb g : Nat) (r : Int32) : Prop := (g = 0 ∧ r = (-2000)) ∨ (g ≠ 0 ∧ ∃ v, r = iI v ∧ (-150 ≤ v ∧ v ≤ 100000) ∧ ∀ c, c < 100000 → (v ≤ c ↔ FE N fo fb g c))
theorem d_X_worst_0 : decode b_X_worst 0 = .ok (.aload_n 0, 1) := by decide +kernel
theorem d_X_worst_1 : decode b_X_worst 1 = .ok (.getfield 56, 3) := by decide +kernel
theorem d_X_worst_4 : decode b_X_worst 4 = .ok (.ifCond .ne 7, 3) := by decide +kernel
theorem d_X_worst_7 : decode b_X_worst 7 = .ok (.sipush (-2000), 3) := by decide +kernel
theorem d_X_worst_10 : decode b_X_worst 10 = .ok (.ireturn, 1) := by decide +kernel
theorem d_X_worst_11 : decode b_X_worst 11 = .ok (.aload_n 0, 1) := by decide +kernel
theorem d_X_worst_12 : decode b_X_worst 12 = .ok (.aload_n 0, 1) := by decide +kernel
theorem d_X_worst_13 : decode b_X_worst 13 = .ok (.getfield 56, 3) := by decide +kernel
theorem d_X_worst_16 : decode b_X_worst 16 = .ok (.invokevirtual 83, 3) := by decide +kernel
theorem d_X_worst_19 : decode b_X_worst 19 = .ok (.ireturn, 1) := by decide +kernel
set_option maxHeartbeats 4000000 in
set_option maxRecDepth 100000 in
/-- worst() -/
theorem c_X_worst (l : Launch) (D : va_G) (h : Nat → Nat) (cs : Nat → ClassId) {cp : Nat} {cap : Int} {pr : Nat} {fo : Int} {fb pn be : Nat} {N : Nat → Nat → Nat} {rk : Nat → Nat} (hpr : pr < 32) (hN : okN N) (hlen : ∀ j, pr.testBit j = true → 1 ≤ N 2 j) (hA : Acy pr (N 6) rk) (hfo : -1 ≤ fo ∧ fo < 5) (hfb : fb ≤ 60) : CI l y_X_worst b_X_worst 1 .int 4 D (tysX cs) (wX h cs) (cp, cap, pr, fo, fb, pn, be, N) [.ref (h 0)] (fun r u' => ∃ pn' be' rd pd, u' = (cp, cap, pr, fo, fb, pn', be', sc N rd pd) ∧ OptX N fo fb pr r) := by
  refine CI_of ok_X_worst (Nat.le_of_ble_eq_true rfl) (cat_all rfl) ?_
  intro K C hret
  have C : Kok D (tysX cs) K b_X_worst 1 R_X 4 := C
  refine j_aload_n C d_X_worst_0 (a := h 0) rfl ?_
  refine x_get C 2 (v := .int (nI pr)) d_X_worst_1 (by decide) fl_X_2 rfl ?_
  refine j_if_ne C d_X_worst_4 (tgt := 11) (by decide) (tI pr (by omega)) (fun c_4 => ?_) (fun c_4 => ?_)
  · refine j_aload_n C d_X_worst_11 (a := h 0) rfl ?_
    refine j_aload_n C d_X_worst_12 (a := h 0) rfl ?_
    refine x_get C 2 (v := .int (nI pr)) d_X_worst_13 (by decide) fl_X_2 rfl ?_
    refine j_calli C (c_X_leastWorst l D h cs (g := pr) hpr (by omega) hN hlen hA hfo hfb) (As := [.int (nI pr)]) (rest := []) ok_X_leastWorst ml_X_83 (by decide) d_X_worst_16 (q0 := 0) rfl rfl rfl rfl (Nat.le_of_ble_eq_true rfl) ?_
    intro r u' hp
    obtain ⟨v, pn', be', rd, pd, rfl, rfl, hv, hvc⟩ := hp
    exact hret _ _ _ _ d_X_worst_19 rfl ⟨pn', be', rd, pd, rfl, Or.inr ⟨by omega, v, rfl, hv, hvc⟩⟩
  · refine j_sipush C d_X_worst_7 (v := (-2000)) (by decide) ?_
    exact hret _ _ _ _ d_X_worst_10 rfl ⟨pn, be, N 7, N 8, by rw [sc_self], Or.inl ⟨by omega, rfl⟩⟩
theorem d_X_worstWithout_0 : decode b_X_worstWithout 0 = .ok (.aload_n 0, 1) := by decide +kernel
theorem d_X_worstWithout_1 : decode b_X_worstWithout 1 = .ok (.iload_n 1, 1) := by decide +kernel
theorem d_X_worstWithout_2 : decode b_X_worstWithout 2 = .ok (.invokevirtual 63, 3) := by decide +kernel
theorem d_X_worstWithout_5 : decode b_X_worstWithout 5 = .ok (.ifCond .ne 7, 3) := by decide +kernel
theorem d_X_worstWithout_8 : decode b_X_worstWithout 8 = .ok (.sipush (-2000), 3) := by decide +kernel
theorem d_X_worstWithout_11 : decode b_X_worstWithout 11 = .ok (.ireturn, 1) := by decide +kernel
theorem d_X_worstWithout_12 : decode b_X_worstWithout 12 = .ok (.aload_n 0, 1) := by decide +kernel
theorem d_X_worstWithout_13 : decode b_X_worstWithout 13 = .ok (.getfield 56, 3) := by decide +kernel
theorem d_X_worstWithout_16 : decode b_X_worstWithout 16 = .ok (.iconst 1, 1) := by decide +kernel
theorem d_X_worstWithout_17 : decode b_X_worstWithout 17 = .ok (.iload_n 1, 1) := by decide +kernel
theorem d_X_worstWithout_18 : decode b_X_worstWithout 18 = .ok (.ishl, 1) := by decide +kernel
theorem d_X_worstWithout_19 : decode b_X_worstWithout 19 = .ok (.iconst (-1), 1) := by decide +kernel
theorem d_X_worstWithout_20 : decode b_X_worstWithout 20 = .ok (.ixor, 1) := by decide +kernel
theorem d_X_worstWithout_21 : decode b_X_worstWithout 21 = .ok (.iand, 1) := by decide +kernel
theorem d_X_worstWithout_22 : decode b_X_worstWithout 22 = .ok (.istore_n 2, 1) := by decide +kernel
theorem d_X_worstWithout_23 : decode b_X_worstWithout 23 = .ok (.iload_n 2, 1) := by decide +kernel
theorem d_X_worstWithout_24 : decode b_X_worstWithout 24 = .ok (.ifCond .ne 7, 3) := by decide +kernel
theorem d_X_worstWithout_27 : decode b_X_worstWithout 27 = .ok (.sipush (-2000), 3) := by decide +kernel
theorem d_X_worstWithout_30 : decode b_X_worstWithout 30 = .ok (.ireturn, 1) := by decide +kernel
theorem d_X_worstWithout_31 : decode b_X_worstWithout 31 = .ok (.aload_n 0, 1) := by decide +kernel
theorem d_X_worstWithout_32 : decode b_X_worstWithout 32 = .ok (.iload_n 2, 1) := by decide +kernel
theorem d_X_worstWithout_33 : decode b_X_worstWithout 33 = .ok (.invokevirtual 83, 3) := by decide +kernel
theorem d_X_worstWithout_36 : decode b_X_worstWithout 36 = .ok (.ireturn, 1) := by decide +kernel
set_option maxHeartbeats 4000000 in
set_option maxRecDepth 100000 in
/-- worstWithout(x) -/
theorem c_X_worstWithout (l : Launch) (D : va_G) (h : Nat → Nat) (cs : Nat → ClassId) {cp : Nat} {cap : Int} {pr : Nat} {fo : Int} {fb pn be : Nat} {N : Nat → Nat → Nat} (hcp : cp ≤ 5) {rk : Nat → Nat} (hpr : pr < 32) (hN : okN N) (hlen : ∀ j, pr.testBit j = true → 1 ≤ N 2 j) (hA : Acy pr (N 6) rk) (hfo : -1 ≤ fo ∧ fo < 5) (hfb : fb ≤ 60) (x : Int32) : CI l y_X_worstWithout b_X_worstWithout 3 .int 4 D (tysX cs) (wX h cs) (cp, cap, pr, fo, fb, pn, be, N) [.ref (h 0), .int x] (fun r u' => ∃ pn' be' rd pd, u' = (cp, cap, pr, fo, fb, pn', be', sc N rd pd) ∧ ((¬ hld cp pr x ∧ r = (-2000)) ∨ ∃ i, x = nI i ∧ i < cp ∧ pr.testBit i = true ∧ OptX N fo fb (dif pr (2 ^ i)) r)) := by
  refine CI_of ok_X_worstWithout (Nat.le_of_ble_eq_true rfl) (cat_all rfl) ?_
  intro K C hret
  have C : Kok D (tysX cs) K b_X_worstWithout 3 R_X 4 := C
  refine j_aload_n C d_X_worstWithout_0 (a := h 0) rfl ?_
  refine j_iload_n C d_X_worstWithout_1 (x := x) rfl ?_
  refine j_calli C (c_X_holds l D h cs hcp hpr x) (As := [.int x]) (rest := []) ok_X_holds ml_X_63 (by decide) d_X_worstWithout_2 (q0 := 0) rfl rfl rfl rfl (Nat.le_of_ble_eq_true rfl) ?_
  intro r_2 u' hp
  obtain ⟨rfl, hp_2⟩ := hp
  refine j_if_ne C d_X_worstWithout_5 (tgt := 12) (by decide) (rfl) (fun c_5 => ?_) (fun c_5 => ?_)
  · have t_5 := bool_t hp_2 c_5
    obtain ⟨i, hi, rfl, hbi⟩ := t_5
    have hp2 := pow_lt (show i < 5 by omega)
    have hdl := dif_lt (b := 2 ^ i) hpr
    have hds : ∀ j, (dif pr (2 ^ i)).testBit j = true → pr.testBit j = true := fun j hj => ((dif_t hpr).mp hj).1
    refine j_aload_n C d_X_worstWithout_12 (a := h 0) rfl ?_
    refine x_get C 2 (v := .int (nI pr)) d_X_worstWithout_13 (by decide) fl_X_2 rfl ?_
    refine j_iconst C d_X_worstWithout_16 (v := nI 1) (by decide) ?_
    refine j_iload_n C d_X_worstWithout_17 (x := nI i) rfl ?_
    refine j_ishl C d_X_worstWithout_18 (z := nI (2 ^ i)) (nI_shl1 (by omega)) ?_
    refine j_iconst C d_X_worstWithout_19 (v := (-1)) (by decide) ?_
    refine j_ixor C d_X_worstWithout_20 (z := nI (2 ^ i) ^^^ (-1)) (rfl) ?_
    refine j_iand C d_X_worstWithout_21 (z := nI (dif pr (2 ^ i))) (nI_dif (by omega) (by omega)) ?_
    refine j_istore_n C d_X_worstWithout_22 (Nat.le_of_ble_eq_true rfl) (Nat.le_of_ble_eq_true rfl) (L' := [.ref (h 0), .int (nI i), .int (nI (dif pr (2 ^ i)))]) rfl ?_
    refine j_iload_n C d_X_worstWithout_23 (x := nI (dif pr (2 ^ i))) rfl ?_
    refine j_if_ne C d_X_worstWithout_24 (tgt := 31) (by decide) (tI (dif pr (2 ^ i)) (by omega)) (fun c_24 => ?_) (fun c_24 => ?_)
    · refine j_aload_n C d_X_worstWithout_31 (a := h 0) rfl ?_
      refine j_iload_n C d_X_worstWithout_32 (x := nI (dif pr (2 ^ i))) rfl ?_
      refine j_calli C (c_X_leastWorst l D h cs (g := dif pr (2 ^ i)) hdl (by omega) hN (fun j hj => hlen j (hds j hj)) (acy_sub hA hds) hfo hfb) (As := [.int (nI (dif pr (2 ^ i)))]) (rest := []) ok_X_leastWorst ml_X_83 (by decide) d_X_worstWithout_33 (q0 := 0) rfl rfl rfl rfl (Nat.le_of_ble_eq_true rfl) ?_
      intro r u' hp
      obtain ⟨v, pn', be', rd, pd, rfl, rfl, hv, hvc⟩ := hp
      exact hret _ _ _ _ d_X_worstWithout_36 rfl ⟨pn', be', rd, pd, rfl, Or.inr ⟨i, rfl, hi, hbi, Or.inr ⟨by omega, v, rfl, hv, hvc⟩⟩⟩
    · refine j_sipush C d_X_worstWithout_27 (v := (-2000)) (by decide) ?_
      exact hret _ _ _ _ d_X_worstWithout_30 rfl ⟨pn, be, N 7, N 8, by rw [sc_self], Or.inr ⟨i, rfl, hi, hbi, Or.inl ⟨by omega, rfl⟩⟩⟩
  · have t_5 := bool_f hp_2 c_5
    refine j_sipush C d_X_worstWithout_8 (v := (-2000)) (by decide) ?_
    exact hret _ _ _ _ d_X_worstWithout_11 rfl ⟨pn, be, N 7, N 8, by rw [sc_self], Or.inl ⟨t_5, rfl⟩⟩
theorem d_X_span_0 : decode b_X_span 0 = .ok (.aload_n 0, 1) := by decide +kernel
theorem d_X_span_1 : decode b_X_span 1 = .ok (.aload_n 0, 1) := by decide +kernel
theorem d_X_span_2 : decode b_X_span 2 = .ok (.getfield 56, 3) := by decide +kernel
theorem d_X_span_5 : decode b_X_span 5 = .ok (.invokevirtual 86, 3) := by decide +kernel
theorem d_X_span_8 : decode b_X_span 8 = .ok (.aload_n 0, 1) := by decide +kernel
theorem d_X_span_9 : decode b_X_span 9 = .ok (.getfield 56, 3) := by decide +kernel
theorem d_X_span_12 : decode b_X_span 12 = .ok (.istore_n 1, 1) := by decide +kernel
theorem d_X_span_13 : decode b_X_span 13 = .ok (.iconst 0, 1) := by decide +kernel
theorem d_X_span_14 : decode b_X_span 14 = .ok (.istore_n 2, 1) := by decide +kernel
theorem d_X_span_15 : decode b_X_span 15 = .ok (.iconst 0, 1) := by decide +kernel
theorem d_X_span_16 : decode b_X_span 16 = .ok (.istore_n 3, 1) := by decide +kernel
theorem d_X_span_17 : decode b_X_span 17 = .ok (.iload_n 3, 1) := by decide +kernel
theorem d_X_span_18 : decode b_X_span 18 = .ok (.iconst 5, 1) := by decide +kernel
theorem d_X_span_19 : decode b_X_span 19 = .ok (.if_icmp .ge 32, 3) := by decide +kernel
theorem d_X_span_22 : decode b_X_span 22 = .ok (.iload_n 1, 1) := by decide +kernel
theorem d_X_span_23 : decode b_X_span 23 = .ok (.ifCond .eq 28, 3) := by decide +kernel
theorem d_X_span_26 : decode b_X_span 26 = .ok (.aload_n 0, 1) := by decide +kernel
theorem d_X_span_27 : decode b_X_span 27 = .ok (.iload_n 1, 1) := by decide +kernel
theorem d_X_span_28 : decode b_X_span 28 = .ok (.invokevirtual 94, 3) := by decide +kernel
theorem d_X_span_31 : decode b_X_span 31 = .ok (.istore 4, 2) := by decide +kernel
theorem d_X_span_33 : decode b_X_span 33 = .ok (.aload_n 0, 1) := by decide +kernel
theorem d_X_span_34 : decode b_X_span 34 = .ok (.getfield 97, 3) := by decide +kernel
theorem d_X_span_37 : decode b_X_span 37 = .ok (.istore_n 2, 1) := by decide +kernel
theorem d_X_span_38 : decode b_X_span 38 = .ok (.iload_n 1, 1) := by decide +kernel
theorem d_X_span_39 : decode b_X_span 39 = .ok (.iload 4, 2) := by decide +kernel
theorem d_X_span_41 : decode b_X_span 41 = .ok (.iconst (-1), 1) := by decide +kernel
theorem d_X_span_42 : decode b_X_span 42 = .ok (.ixor, 1) := by decide +kernel
theorem d_X_span_43 : decode b_X_span 43 = .ok (.iand, 1) := by decide +kernel
theorem d_X_span_44 : decode b_X_span 44 = .ok (.istore_n 1, 1) := by decide +kernel
theorem d_X_span_45 : decode b_X_span 45 = .ok (.iinc 3 1, 3) := by decide +kernel
theorem d_X_span_48 : decode b_X_span 48 = .ok (.goto (-31), 3) := by decide +kernel
theorem d_X_span_51 : decode b_X_span 51 = .ok (.iload_n 2, 1) := by decide +kernel
theorem d_X_span_52 : decode b_X_span 52 = .ok (.ireturn, 1) := by decide +kernel
set_option maxHeartbeats 4000000 in
set_option maxRecDepth 100000 in
/-- span() -/
theorem c_X_span (l : Launch) (D : va_G) (h : Nat → Nat) (cs : Nat → ClassId) {cp : Nat} {cap : Int} {pr : Nat} {fo : Int} {fb pn be : Nat} {N : Nat → Nat → Nat} {rk : Nat → Nat} (hpr : pr < 32) (hN : okN N) (hlen : ∀ j, pr.testBit j = true → 1 ≤ N 2 j) (hA : Acy pr (N 6) rk) (hfo : -1 ≤ fo ∧ fo < 5) (hfb : fb ≤ 60) : CI l y_X_span b_X_span 5 .int 2 D (tysX cs) (wX h cs) (cp, cap, pr, fo, fb, pn, be, N) [.ref (h 0)] (fun r u' => ∃ be' rd e, u' = (cp, cap, pr, fo, fb, pn, be', va_up N 7 rd) ∧ r = nI e ∧ SpanIs pr (N 1) (N 2) (EN N) e) := by
  refine CI_of ok_X_span (Nat.le_of_ble_eq_true rfl) (cat_all rfl) ?_
  intro K C hret
  have C : Kok D (tysX cs) K b_X_span 5 R_X 2 := C
  refine j_aload_n C d_X_span_0 (a := h 0) rfl ?_
  refine j_aload_n C d_X_span_1 (a := h 0) rfl ?_
  refine x_get C 2 (v := .int (nI pr)) d_X_span_2 (by decide) fl_X_2 rfl ?_
  refine j_callv C (c_X_setReady l D h cs (g := pr) hpr hN hA) (As := [.int (nI pr)]) (rest := []) ok_X_setReady ml_X_86 (by decide) d_X_span_5 (q0 := 0) rfl rfl rfl rfl (Nat.le_of_ble_eq_true rfl) ?_
  intro u' hp
  obtain ⟨rd, rfl, hR⟩ := hp
  have hR : RdOK pr (N 1) (N 2) (EN N) rd := hR
  refine j_aload_n C d_X_span_8 (a := h 0) rfl ?_
  refine x_get C 2 (v := .int (nI pr)) d_X_span_9 (by decide) fl_X_2 rfl ?_
  refine j_istore_n C d_X_span_12 (Nat.le_of_ble_eq_true rfl) (Nat.le_of_ble_eq_true rfl) (L' := [.ref (h 0), .int (nI pr)]) rfl ?_
  refine j_iconst C d_X_span_13 (v := nI 0) (by decide) ?_
  refine j_istore_n C d_X_span_14 (Nat.le_of_ble_eq_true rfl) (Nat.le_of_ble_eq_true rfl) (L' := [.ref (h 0), .int (nI pr), .int (nI 0)]) rfl ?_
  refine j_iconst C d_X_span_15 (v := nI 0) (by decide) ?_
  refine j_istore_n C d_X_span_16 (Nat.le_of_ble_eq_true rfl) (Nat.le_of_ble_eq_true rfl) (L' := [.ref (h 0), .int (nI pr), .int (nI 0), .int (nI 0)]) rfl ?_
  have key : ∀ k, k ≤ 5 → ∀ G e be1, e ≤ 200 → SPP pr (N 1) rd (N 2) (EN N) k G e → J l D K (wX h cs) (cp, cap, pr, fo, fb, pn, be1, va_up N 7 rd) 17 [.ref (h 0), .int (nI G), .int (nI e), .int (nI k)] [] := by
    refine up_ind 5 ?_
    intro k hk ih G e be1 he hF
    have hG := hF.1
    refine j_iload_n C d_X_span_17 (x := nI k) rfl ?_
    refine j_iconst C d_X_span_18 (v := nI 5) (by decide) ?_
    refine j_icmp_ge C d_X_span_19 (tgt := 51) (by decide) (tI k (by omega)) (tI 5 (by decide)) (fun c_19 => ?_) (fun c_19 => ?_)
    · obtain rfl : k = 5 := by omega
      obtain rfl := SPP_5 hF
      refine j_iload_n C d_X_span_51 (x := nI e) rfl ?_
      exact hret _ _ _ _ d_X_span_52 rfl ⟨_, rd, e, rfl, rfl, SPP_end hR hF⟩
    · refine j_iload_n C d_X_span_22 (x := nI G) rfl ?_
      refine j_if_eq C d_X_span_23 (tgt := 51) (by decide) (tI G (by omega)) (fun c_23 => ?_) (fun c_23 => ?_)
      · obtain rfl : G = 0 := by omega
        refine j_iload_n C d_X_span_51 (x := nI e) rfl ?_
        exact hret _ _ _ _ d_X_span_52 rfl ⟨_, rd, e, rfl, rfl, SPP_end hR hF⟩
      · refine j_aload_n C d_X_span_26 (a := h 0) rfl ?_
        refine j_iload_n C d_X_span_27 (x := nI G) rfl ?_
        refine j_calli C (c_X_firstBlock l D h cs (N := va_up N 7 rd) (g := G) hG (by omega) (fun j hj => Nat.lt_of_le_of_lt (hR.1 j hj) (by decide)) (fun j hj => (hN j hj).2.1) (fun j hj => hlen j (hF.2.1 j hj))) (As := [.int (nI G)]) (rest := []) ok_X_firstBlock ml_X_94 (by decide) d_X_span_28 (q0 := 0) rfl rfl rfl rfl (Nat.le_of_ble_eq_true rfl) ?_
        intro r' u' hp
        obtain ⟨blk, st, e', rfl, rfl, hB⟩ := hp
        have hB : BlkF rd (N 2) G blk st e' := hB
        have hb32 := hB.1.1
        have hbe := blk_e hB.1 hG (fun j hj => Nat.lt_of_le_of_lt (hR.1 j hj) (by decide)) (fun j hj => (hN j hj).2.1)
        refine j_istore C d_X_span_31 (Nat.le_of_ble_eq_true rfl) (Nat.le_of_ble_eq_true rfl) (L' := [.ref (h 0), .int (nI G), .int (nI e), .int (nI k), .int (nI blk)]) rfl ?_
        refine j_aload_n C d_X_span_33 (a := h 0) rfl ?_
        refine x_get C 14 (v := .int (nI e')) d_X_span_34 (by decide) fl_X_14 rfl ?_
        refine j_istore_n C d_X_span_37 (Nat.le_of_ble_eq_true rfl) (Nat.le_of_ble_eq_true rfl) (L' := [.ref (h 0), .int (nI G), .int (nI e'), .int (nI k), .int (nI blk)]) rfl ?_
        refine j_iload_n C d_X_span_38 (x := nI G) rfl ?_
        refine j_iload C d_X_span_39 (x := nI blk) rfl ?_
        refine j_iconst C d_X_span_41 (v := (-1)) (by decide) ?_
        refine j_ixor C d_X_span_42 (z := nI blk ^^^ (-1)) (rfl) ?_
        refine j_iand C d_X_span_43 (z := nI (dif G blk)) (nI_dif (by omega) (by omega)) ?_
        refine j_istore_n C d_X_span_44 (Nat.le_of_ble_eq_true rfl) (Nat.le_of_ble_eq_true rfl) (L' := [.ref (h 0), .int (nI (dif G blk)), .int (nI e'), .int (nI k), .int (nI blk)]) rfl ?_
        refine j_iinc C d_X_span_45 (Nat.le_of_ble_eq_true rfl) (x := nI k) (v := nI (k + 1)) rfl (nI_add _ _) (L' := [.ref (h 0), .int (nI (dif G blk)), .int (nI e'), .int (nI (k + 1)), .int (nI blk)]) rfl ?_
        refine j_goto C d_X_span_48 (tgt := 17) (by decide) ?_
        refine j_take 4 rfl ?_
        exact ih (by omega) _ _ _ (by omega) (SPP_step (fun i j => Iff.rfl) hpr hA hlen hR hF hB)
  exact key 0 (by omega) _ _ _ (by omega) (SPP_0 hpr)
theorem d_X_earliestFinish_0 : decode b_X_earliestFinish 0 = .ok (.aload_n 0, 1) := by decide +kernel
theorem d_X_earliestFinish_1 : decode b_X_earliestFinish 1 = .ok (.iload_n 1, 1) := by decide +kernel
theorem d_X_earliestFinish_2 : decode b_X_earliestFinish 2 = .ok (.invokevirtual 63, 3) := by decide +kernel
theorem d_X_earliestFinish_5 : decode b_X_earliestFinish 5 = .ok (.ifCond .ne 7, 3) := by decide +kernel
theorem d_X_earliestFinish_8 : decode b_X_earliestFinish 8 = .ok (.sipush (-2000), 3) := by decide +kernel
theorem d_X_earliestFinish_11 : decode b_X_earliestFinish 11 = .ok (.ireturn, 1) := by decide +kernel
theorem d_X_earliestFinish_12 : decode b_X_earliestFinish 12 = .ok (.iconst 1, 1) := by decide +kernel
theorem d_X_earliestFinish_13 : decode b_X_earliestFinish 13 = .ok (.istore_n 2, 1) := by decide +kernel
theorem d_X_earliestFinish_14 : decode b_X_earliestFinish 14 = .ok (.bipush 60, 2) := by decide +kernel
theorem d_X_earliestFinish_16 : decode b_X_earliestFinish 16 = .ok (.istore_n 3, 1) := by decide +kernel
theorem d_X_earliestFinish_17 : decode b_X_earliestFinish 17 = .ok (.aload_n 0, 1) := by decide +kernel
theorem d_X_earliestFinish_18 : decode b_X_earliestFinish 18 = .ok (.iload_n 1, 1) := by decide +kernel
theorem d_X_earliestFinish_19 : decode b_X_earliestFinish 19 = .ok (.putfield 28, 3) := by decide +kernel
theorem d_X_earliestFinish_22 : decode b_X_earliestFinish 22 = .ok (.iconst 0, 1) := by decide +kernel
theorem d_X_earliestFinish_23 : decode b_X_earliestFinish 23 = .ok (.istore 4, 2) := by decide +kernel
theorem d_X_earliestFinish_25 : decode b_X_earliestFinish 25 = .ok (.iload 4, 2) := by decide +kernel
theorem d_X_earliestFinish_27 : decode b_X_earliestFinish 27 = .ok (.bipush 7, 2) := by decide +kernel
theorem d_X_earliestFinish_29 : decode b_X_earliestFinish 29 = .ok (.if_icmp .ge 45, 3) := by decide +kernel
theorem d_X_earliestFinish_32 : decode b_X_earliestFinish 32 = .ok (.iload_n 2, 1) := by decide +kernel
theorem d_X_earliestFinish_33 : decode b_X_earliestFinish 33 = .ok (.iload_n 3, 1) := by decide +kernel
theorem d_X_earliestFinish_34 : decode b_X_earliestFinish 34 = .ok (.if_icmp .ge 40, 3) := by decide +kernel
theorem d_X_earliestFinish_37 : decode b_X_earliestFinish 37 = .ok (.iload_n 2, 1) := by decide +kernel
theorem d_X_earliestFinish_38 : decode b_X_earliestFinish 38 = .ok (.iload_n 3, 1) := by decide +kernel
theorem d_X_earliestFinish_39 : decode b_X_earliestFinish 39 = .ok (.iadd, 1) := by decide +kernel
theorem d_X_earliestFinish_40 : decode b_X_earliestFinish 40 = .ok (.iconst 1, 1) := by decide +kernel
theorem d_X_earliestFinish_41 : decode b_X_earliestFinish 41 = .ok (.ishr, 1) := by decide +kernel
theorem d_X_earliestFinish_42 : decode b_X_earliestFinish 42 = .ok (.istore 5, 2) := by decide +kernel
theorem d_X_earliestFinish_44 : decode b_X_earliestFinish 44 = .ok (.aload_n 0, 1) := by decide +kernel
theorem d_X_earliestFinish_45 : decode b_X_earliestFinish 45 = .ok (.iload 5, 2) := by decide +kernel
theorem d_X_earliestFinish_47 : decode b_X_earliestFinish 47 = .ok (.putfield 79, 3) := by decide +kernel
theorem d_X_earliestFinish_50 : decode b_X_earliestFinish 50 = .ok (.aload_n 0, 1) := by decide +kernel
theorem d_X_earliestFinish_51 : decode b_X_earliestFinish 51 = .ok (.invokevirtual 59, 3) := by decide +kernel
theorem d_X_earliestFinish_54 : decode b_X_earliestFinish 54 = .ok (.ifCond .eq 9, 3) := by decide +kernel
theorem d_X_earliestFinish_57 : decode b_X_earliestFinish 57 = .ok (.iload 5, 2) := by decide +kernel
theorem d_X_earliestFinish_59 : decode b_X_earliestFinish 59 = .ok (.istore_n 3, 1) := by decide +kernel
theorem d_X_earliestFinish_60 : decode b_X_earliestFinish 60 = .ok (.goto 8, 3) := by decide +kernel
theorem d_X_earliestFinish_63 : decode b_X_earliestFinish 63 = .ok (.iload 5, 2) := by decide +kernel
theorem d_X_earliestFinish_65 : decode b_X_earliestFinish 65 = .ok (.iconst 1, 1) := by decide +kernel
theorem d_X_earliestFinish_66 : decode b_X_earliestFinish 66 = .ok (.iadd, 1) := by decide +kernel
theorem d_X_earliestFinish_67 : decode b_X_earliestFinish 67 = .ok (.istore_n 2, 1) := by decide +kernel
theorem d_X_earliestFinish_68 : decode b_X_earliestFinish 68 = .ok (.iinc 4 1, 3) := by decide +kernel
theorem d_X_earliestFinish_71 : decode b_X_earliestFinish 71 = .ok (.goto (-46), 3) := by decide +kernel
theorem d_X_earliestFinish_74 : decode b_X_earliestFinish 74 = .ok (.aload_n 0, 1) := by decide +kernel
theorem d_X_earliestFinish_75 : decode b_X_earliestFinish 75 = .ok (.iconst (-1), 1) := by decide +kernel
theorem d_X_earliestFinish_76 : decode b_X_earliestFinish 76 = .ok (.putfield 28, 3) := by decide +kernel
theorem d_X_earliestFinish_79 : decode b_X_earliestFinish 79 = .ok (.iload_n 2, 1) := by decide +kernel
theorem d_X_earliestFinish_80 : decode b_X_earliestFinish 80 = .ok (.ireturn, 1) := by decide +kernel
set_option maxHeartbeats 4000000 in
set_option maxRecDepth 100000 in
/-- earliestFinish(x) -/
theorem c_X_earliestFinish (l : Launch) (D : va_G) (h : Nat → Nat) (cs : Nat → ClassId) {cp : Nat} {cap : Int} {pr : Nat} {fo : Int} {fb pn be : Nat} {N : Nat → Nat → Nat} {rk : Nat → Nat} (hcp : cp ≤ 5) (hpr : pr < 32) (hN : okN N) (hlen : ∀ j, pr.testBit j = true → 1 ≤ N 2 j) (hA : Acy pr (N 6) rk) (hfb : fb ≤ 60) (hcap : -200 ≤ cap ∧ cap ≤ 1000) (x : Int32) : CI l y_X_earliestFinish b_X_earliestFinish 6 .int 5 D (tysX cs) (wX h cs) (cp, cap, pr, fo, fb, pn, be, N) [.ref (h 0), .int x] (fun r u' => (r = (-2000) ∧ u' = (cp, cap, pr, fo, fb, pn, be, N) ∧ ¬ hld cp pr x) ∨ ∃ i, x = nI i ∧ i < cp ∧ pr.testBit i = true ∧ ∃ f fb' pn' be' rd pd, r = nI f ∧ fb' ≤ 60 ∧ u' = (cp, cap, pr, (-1), fb', pn', be', sc N rd pd) ∧ 1 ≤ f ∧ f ≤ 60 ∧ (∀ f', 1 ≤ f' → f' < f → ¬ FE N (i : Int) f' pr cap) ∧ (FE N (i : Int) f pr cap ∨ f = 60)) := by
  refine CI_of ok_X_earliestFinish (Nat.le_of_ble_eq_true rfl) (cat_all rfl) ?_
  intro K C hret
  have C : Kok D (tysX cs) K b_X_earliestFinish 6 R_X 5 := C
  refine j_aload_n C d_X_earliestFinish_0 (a := h 0) rfl ?_
  refine j_iload_n C d_X_earliestFinish_1 (x := x) rfl ?_
  refine j_calli C (c_X_holds l D h cs hcp hpr x) (As := [.int x]) (rest := []) ok_X_holds ml_X_63 (by decide) d_X_earliestFinish_2 (q0 := 0) rfl rfl rfl rfl (Nat.le_of_ble_eq_true rfl) ?_
  intro r_2 u' hp
  obtain ⟨rfl, hp_2⟩ := hp
  refine j_if_ne C d_X_earliestFinish_5 (tgt := 12) (by decide) (rfl) (fun c_5 => ?_) (fun c_5 => ?_)
  · have t_5 := bool_t hp_2 c_5
    obtain ⟨i, hic, rfl, hbi⟩ := t_5
    refine j_iconst C d_X_earliestFinish_12 (v := nI 1) (by decide) ?_
    refine j_istore_n C d_X_earliestFinish_13 (Nat.le_of_ble_eq_true rfl) (Nat.le_of_ble_eq_true rfl) (L' := [.ref (h 0), .int (nI i), .int (nI 1)]) rfl ?_
    refine j_bipush C d_X_earliestFinish_14 (v := nI 60) (by decide) ?_
    refine j_istore_n C d_X_earliestFinish_16 (Nat.le_of_ble_eq_true rfl) (Nat.le_of_ble_eq_true rfl) (L' := [.ref (h 0), .int (nI i), .int (nI 1), .int (nI 60)]) rfl ?_
    refine j_aload_n C d_X_earliestFinish_17 (a := h 0) rfl ?_
    refine j_iload_n C d_X_earliestFinish_18 (x := nI i) rfl ?_
    refine j_top (nI_iI i) ?_
    refine x_put C 9 (u' := (cp, cap, pr, ((i : Nat) : Int), fb, pn, be, N)) d_X_earliestFinish_19 (by decide) fl_X_9 rfl rfl rfl ?_
    refine j_iconst C d_X_earliestFinish_22 (v := nI 0) (by decide) ?_
    refine j_istore C d_X_earliestFinish_23 (Nat.le_of_ble_eq_true rfl) (Nat.le_of_ble_eq_true rfl) (L' := [.ref (h 0), .int (nI i), .int (nI 1), .int (nI 60), .int (nI 0)]) rfl ?_
    refine j_same (u' := (cp, cap, pr, (i : Int), fb, pn, be, sc N (N 7) (N 8))) (by rw [sc_self]) ?_
    have key : ∀ r, r ≤ 7 → ∀ lo hi fb1 pn1 be1 rd pd, fb1 ≤ 60 → BSP (fun f => FE N (i : Int) f pr cap) r lo hi → J l D K (wX h cs) (cp, cap, pr, (i : Int), fb1, pn1, be1, sc N rd pd) 25 [.ref (h 0), .int (nI i), .int (nI lo), .int (nI hi), .int (nI r)] [] := by
      refine up_ind 7 ?_
      intro r hr ih lo hi fb1 pn1 be1 rd pd hfb1 hF
      have hlh := hF.2.1
      have hh60 := hF.2.2.1
      refine j_iload C d_X_earliestFinish_25 (x := nI r) rfl ?_
      refine j_bipush C d_X_earliestFinish_27 (v := nI 7) (by decide) ?_
      refine j_icmp_ge C d_X_earliestFinish_29 (tgt := 74) (by decide) (tI r (by omega)) (tI 7 (by decide)) (fun c_29 => ?_) (fun c_29 => ?_)
      · have hE := BSP_end hF (by omega)
        refine j_aload_n C d_X_earliestFinish_74 (a := h 0) rfl ?_
        refine j_iconst C d_X_earliestFinish_75 (v := (-1)) (by decide) ?_
        refine j_top (y := iI (-1)) (by decide) ?_
        refine x_put C 9 (u' := (cp, cap, pr, (-1), fb1, pn1, be1, sc N rd pd)) d_X_earliestFinish_76 (by decide) fl_X_9 rfl rfl rfl ?_
        refine j_iload_n C d_X_earliestFinish_79 (x := nI lo) rfl ?_
        exact hret _ _ _ _ d_X_earliestFinish_80 rfl (Or.inr ⟨i, rfl, hic, hbi, lo, fb1, pn1, be1, rd, pd, rfl, hfb1, rfl, hE⟩)
      · refine j_iload_n C d_X_earliestFinish_32 (x := nI lo) rfl ?_
        refine j_iload_n C d_X_earliestFinish_33 (x := nI hi) rfl ?_
        refine j_icmp_ge C d_X_earliestFinish_34 (tgt := 74) (by decide) (tI lo (by omega)) (tI hi (by omega)) (fun c_34 => ?_) (fun c_34 => ?_)
        · have hE := BSP_end hF (by omega)
          refine j_aload_n C d_X_earliestFinish_74 (a := h 0) rfl ?_
          refine j_iconst C d_X_earliestFinish_75 (v := (-1)) (by decide) ?_
          refine j_top (y := iI (-1)) (by decide) ?_
          refine x_put C 9 (u' := (cp, cap, pr, (-1), fb1, pn1, be1, sc N rd pd)) d_X_earliestFinish_76 (by decide) fl_X_9 rfl rfl rfl ?_
          refine j_iload_n C d_X_earliestFinish_79 (x := nI lo) rfl ?_
          exact hret _ _ _ _ d_X_earliestFinish_80 rfl (Or.inr ⟨i, rfl, hic, hbi, lo, fb1, pn1, be1, rd, pd, rfl, hfb1, rfl, hE⟩)
        · refine j_iload_n C d_X_earliestFinish_37 (x := nI lo) rfl ?_
          refine j_iload_n C d_X_earliestFinish_38 (x := nI hi) rfl ?_
          refine j_iadd C d_X_earliestFinish_39 (z := nI (lo + hi)) (nI_add _ _) ?_
          refine j_iconst C d_X_earliestFinish_40 (v := nI 1) (by decide) ?_
          refine j_ishr C d_X_earliestFinish_41 (z := nI ((lo + hi) / 2 ^ 1)) (nI_shr (by omega) (by omega)) ?_
          refine j_istore C d_X_earliestFinish_42 (Nat.le_of_ble_eq_true rfl) (Nat.le_of_ble_eq_true rfl) (L' := [.ref (h 0), .int (nI i), .int (nI lo), .int (nI hi), .int (nI r), .int (nI ((lo + hi) / 2 ^ 1))]) rfl ?_
          refine j_aload_n C d_X_earliestFinish_44 (a := h 0) rfl ?_
          refine j_iload C d_X_earliestFinish_45 (x := nI ((lo + hi) / 2 ^ 1)) rfl ?_
          refine x_put C 10 (u' := (cp, cap, pr, (i : Int), (lo + hi) / 2 ^ 1, pn1, be1, sc N rd pd)) d_X_earliestFinish_47 (by decide) fl_X_10 rfl rfl rfl ?_
          refine j_aload_n C d_X_earliestFinish_50 (a := h 0) rfl ?_
          refine j_calli C (c_X_withinCap l D h cs (fo := (i : Int)) (fb := (lo + hi) / 2 ^ 1) (N := sc N rd pd) (rk := rk) hpr hN hlen hA (by omega) (by omega) hcap) (As := []) (rest := []) ok_X_withinCap ml_X_59 (by decide) d_X_earliestFinish_51 (q0 := 0) rfl rfl rfl rfl (Nat.le_of_ble_eq_true rfl) ?_
          intro r_51 u' hq3
          obtain ⟨pn', be', rd', pd', rfl, hp_51⟩ := hq3
          refine j_same (u' := (cp, cap, pr, (i : Int), (lo + hi) / 2 ^ 1, pn', be', sc N rd' pd')) rfl ?_
          have hp_51 : (r_51 = nI 1 ∧ FE N (i : Int) ((lo + hi) / 2) pr cap) ∨ (r_51 = nI 0 ∧ ¬ FE N (i : Int) ((lo + hi) / 2) pr cap) := hp_51
          refine j_if_eq C d_X_earliestFinish_54 (tgt := 63) (by decide) (rfl) (fun c_54 => ?_) (fun c_54 => ?_)
          · have t_54 := bool_f hp_51 c_54
            refine j_iload C d_X_earliestFinish_63 (x := nI ((lo + hi) / 2 ^ 1)) rfl ?_
            refine j_iconst C d_X_earliestFinish_65 (v := nI 1) (by decide) ?_
            refine j_iadd C d_X_earliestFinish_66 (z := nI (((lo + hi) / 2 ^ 1) + 1)) (nI_add _ _) ?_
            refine j_istore_n C d_X_earliestFinish_67 (Nat.le_of_ble_eq_true rfl) (Nat.le_of_ble_eq_true rfl) (L' := [.ref (h 0), .int (nI i), .int (nI (((lo + hi) / 2 ^ 1) + 1)), .int (nI hi), .int (nI r), .int (nI ((lo + hi) / 2 ^ 1))]) rfl ?_
            refine j_iinc C d_X_earliestFinish_68 (Nat.le_of_ble_eq_true rfl) (x := nI r) (v := nI (r + 1)) rfl (nI_add _ _) (L' := [.ref (h 0), .int (nI i), .int (nI (((lo + hi) / 2 ^ 1) + 1)), .int (nI hi), .int (nI (r + 1)), .int (nI ((lo + hi) / 2 ^ 1))]) rfl ?_
            refine j_goto C d_X_earliestFinish_71 (tgt := 25) (by decide) ?_
            refine j_take 5 rfl ?_
            first | exact ih (by omega) _ _ _ _ _ _ _ (by omega) (BSP_t hF (by omega) t_54) | exact ih (by omega) _ _ _ _ _ _ _ (by omega) (BSP_f (fun f f' h1 h2 => fe_mono h1 (by omega) h2) hF (by omega) t_54)
          · have t_54 := bool_t hp_51 c_54
            refine j_iload C d_X_earliestFinish_57 (x := nI ((lo + hi) / 2 ^ 1)) rfl ?_
            refine j_istore_n C d_X_earliestFinish_59 (Nat.le_of_ble_eq_true rfl) (Nat.le_of_ble_eq_true rfl) (L' := [.ref (h 0), .int (nI i), .int (nI lo), .int (nI ((lo + hi) / 2 ^ 1)), .int (nI r), .int (nI ((lo + hi) / 2 ^ 1))]) rfl ?_
            refine j_goto C d_X_earliestFinish_60 (tgt := 68) (by decide) ?_
            refine j_iinc C d_X_earliestFinish_68 (Nat.le_of_ble_eq_true rfl) (x := nI r) (v := nI (r + 1)) rfl (nI_add _ _) (L' := [.ref (h 0), .int (nI i), .int (nI lo), .int (nI ((lo + hi) / 2 ^ 1)), .int (nI (r + 1)), .int (nI ((lo + hi) / 2 ^ 1))]) rfl ?_
            refine j_goto C d_X_earliestFinish_71 (tgt := 25) (by decide) ?_
            refine j_take 5 rfl ?_
            first | exact ih (by omega) _ _ _ _ _ _ _ (by omega) (BSP_t hF (by omega) t_54) | exact ih (by omega) _ _ _ _ _ _ _ (by omega) (BSP_f (fun f f' h1 h2 => fe_mono h1 (by omega) h2) hF (by omega) t_54)
    exact key 0 (by omega) 1 60 _ _ _ _ _ (by omega) ⟨by omega, by omega, by omega, fun f h1 h2 => by omega, Or.inr rfl, by decide⟩
  · have t_5 := bool_f hp_2 c_5
    refine j_sipush C d_X_earliestFinish_8 (v := (-2000)) (by decide) ?_
    exact hret _ _ _ _ d_X_earliestFinish_11 rfl (Or.inl ⟨rfl, rfl, t_5⟩)
theorem d_X_delay_0 : decode b_X_delay 0 = .ok (.aload_n 0, 1) := by decide +kernel
theorem d_X_delay_1 : decode b_X_delay 1 = .ok (.iload_n 1, 1) := by decide +kernel
theorem d_X_delay_2 : decode b_X_delay 2 = .ok (.invokevirtual 63, 3) := by decide +kernel
theorem d_X_delay_5 : decode b_X_delay 5 = .ok (.ifCond .ne 7, 3) := by decide +kernel
theorem d_X_delay_8 : decode b_X_delay 8 = .ok (.sipush (-2000), 3) := by decide +kernel
theorem d_X_delay_11 : decode b_X_delay 11 = .ok (.ireturn, 1) := by decide +kernel
theorem d_X_delay_12 : decode b_X_delay 12 = .ok (.aload_n 0, 1) := by decide +kernel
theorem d_X_delay_13 : decode b_X_delay 13 = .ok (.getfield 7, 3) := by decide +kernel
theorem d_X_delay_16 : decode b_X_delay 16 = .ok (.iload_n 1, 1) := by decide +kernel
theorem d_X_delay_17 : decode b_X_delay 17 = .ok (.baload, 1) := by decide +kernel
theorem d_X_delay_18 : decode b_X_delay 18 = .ok (.istore_n 2, 1) := by decide +kernel
theorem d_X_delay_19 : decode b_X_delay 19 = .ok (.iconst 0, 1) := by decide +kernel
theorem d_X_delay_20 : decode b_X_delay 20 = .ok (.istore_n 3, 1) := by decide +kernel
theorem d_X_delay_21 : decode b_X_delay 21 = .ok (.iconst 1, 1) := by decide +kernel
theorem d_X_delay_22 : decode b_X_delay 22 = .ok (.istore 4, 2) := by decide +kernel
theorem d_X_delay_24 : decode b_X_delay 24 = .ok (.iconst 1, 1) := by decide +kernel
theorem d_X_delay_25 : decode b_X_delay 25 = .ok (.istore 5, 2) := by decide +kernel
theorem d_X_delay_27 : decode b_X_delay 27 = .ok (.iload 5, 2) := by decide +kernel
theorem d_X_delay_29 : decode b_X_delay 29 = .ok (.bipush 9, 2) := by decide +kernel
theorem d_X_delay_31 : decode b_X_delay 31 = .ok (.if_icmp .gt 39, 3) := by decide +kernel
theorem d_X_delay_34 : decode b_X_delay 34 = .ok (.iload 4, 2) := by decide +kernel
theorem d_X_delay_36 : decode b_X_delay 36 = .ok (.ifCond .eq 34, 3) := by decide +kernel
theorem d_X_delay_39 : decode b_X_delay 39 = .ok (.aload_n 0, 1) := by decide +kernel
theorem d_X_delay_40 : decode b_X_delay 40 = .ok (.getfield 7, 3) := by decide +kernel
theorem d_X_delay_43 : decode b_X_delay 43 = .ok (.iload_n 1, 1) := by decide +kernel
theorem d_X_delay_44 : decode b_X_delay 44 = .ok (.iload_n 2, 1) := by decide +kernel
theorem d_X_delay_45 : decode b_X_delay 45 = .ok (.iload 5, 2) := by decide +kernel
theorem d_X_delay_47 : decode b_X_delay 47 = .ok (.iadd, 1) := by decide +kernel
theorem d_X_delay_48 : decode b_X_delay 48 = .ok (.i2b, 1) := by decide +kernel
theorem d_X_delay_49 : decode b_X_delay 49 = .ok (.bastore, 1) := by decide +kernel
theorem d_X_delay_50 : decode b_X_delay 50 = .ok (.aload_n 0, 1) := by decide +kernel
theorem d_X_delay_51 : decode b_X_delay 51 = .ok (.invokevirtual 59, 3) := by decide +kernel
theorem d_X_delay_54 : decode b_X_delay 54 = .ok (.istore 4, 2) := by decide +kernel
theorem d_X_delay_56 : decode b_X_delay 56 = .ok (.iload 4, 2) := by decide +kernel
theorem d_X_delay_58 : decode b_X_delay 58 = .ok (.ifCond .eq 6, 3) := by decide +kernel
theorem d_X_delay_61 : decode b_X_delay 61 = .ok (.iload 5, 2) := by decide +kernel
theorem d_X_delay_63 : decode b_X_delay 63 = .ok (.istore_n 3, 1) := by decide +kernel
theorem d_X_delay_64 : decode b_X_delay 64 = .ok (.iinc 5 1, 3) := by decide +kernel
theorem d_X_delay_67 : decode b_X_delay 67 = .ok (.goto (-40), 3) := by decide +kernel
theorem d_X_delay_70 : decode b_X_delay 70 = .ok (.aload_n 0, 1) := by decide +kernel
theorem d_X_delay_71 : decode b_X_delay 71 = .ok (.getfield 7, 3) := by decide +kernel
theorem d_X_delay_74 : decode b_X_delay 74 = .ok (.iload_n 1, 1) := by decide +kernel
theorem d_X_delay_75 : decode b_X_delay 75 = .ok (.iload_n 2, 1) := by decide +kernel
theorem d_X_delay_76 : decode b_X_delay 76 = .ok (.i2b, 1) := by decide +kernel
theorem d_X_delay_77 : decode b_X_delay 77 = .ok (.bastore, 1) := by decide +kernel
theorem d_X_delay_78 : decode b_X_delay 78 = .ok (.iload_n 3, 1) := by decide +kernel
theorem d_X_delay_79 : decode b_X_delay 79 = .ok (.ireturn, 1) := by decide +kernel
theorem bool_r0 {r : Int32} {P : Prop} (hp : (r = nI 1 ∧ P) ∨ (r = nI 0 ∧ ¬ P)) (c : r.toInt = 0) : r = nI 0 ∧ ¬ P := by
  rcases hp with ⟨rfl, -⟩ | h
  · rw [tI 1 (by decide)] at c; exact absurd c (by decide)
  · exact h
theorem bool_r1 {r : Int32} {P : Prop} (hp : (r = nI 1 ∧ P) ∨ (r = nI 0 ∧ ¬ P)) (c : r.toInt ≠ 0) : r = nI 1 ∧ P := by
  rcases hp with h | ⟨rfl, -⟩
  · exact h
  · exact absurd (tI 0 (by decide)) c
theorem rel_id (N : Nat → Nat → Nat) (i : Nat) : relN N i (N 1 i) = N := by
  unfold relN
  rw [up_same, up_same]
set_option maxHeartbeats 4000000 in
set_option maxRecDepth 100000 in
/-- delay(x) -/
theorem c_X_delay (l : Launch) (D : va_G) (h : Nat → Nat) (cs : Nat → ClassId) {cp : Nat} {cap : Int} {pr : Nat} {fo : Int} {fb pn be : Nat} {N : Nat → Nat → Nat} {rk : Nat → Nat} (hcp : cp ≤ 5) (hpr : pr < 32) (hN : okN N) (hlen : ∀ j, pr.testBit j = true → 1 ≤ N 2 j) (hA : Acy pr (N 6) rk) (hfo : -1 ≤ fo ∧ fo < 5) (hfb : fb ≤ 60) (hcap : -200 ≤ cap ∧ cap ≤ 1000) (hr9 : ∀ j, j < 5 → N 1 j ≤ 9) (x : Int32) : CI l y_X_delay b_X_delay 6 .int 5 D (tysX cs) (wX h cs) (cp, cap, pr, fo, fb, pn, be, N) [.ref (h 0), .int x] (fun r u' => ∃ pn' be' rd pd, u' = (cp, cap, pr, fo, fb, pn', be', sc N rd pd) ∧ ((¬ hld cp pr x ∧ r = (-2000)) ∨ ∃ i a, x = nI i ∧ i < cp ∧ pr.testBit i = true ∧ r = nI a ∧ a ≤ 9 ∧ (∀ q, 1 ≤ q → q ≤ a → FE (relN N i (N 1 i + q)) fo fb pr cap) ∧ (a = 9 ∨ ¬ FE (relN N i (N 1 i + (a + 1))) fo fb pr cap))) := by
  refine CI_of ok_X_delay (Nat.le_of_ble_eq_true rfl) (cat_all rfl) ?_
  intro K C hret
  have C : Kok D (tysX cs) K b_X_delay 6 R_X 5 := C
  refine j_aload_n C d_X_delay_0 (a := h 0) rfl ?_
  refine j_iload_n C d_X_delay_1 (x := x) rfl ?_
  refine j_calli C (c_X_holds l D h cs hcp hpr x) (As := [.int x]) (rest := []) ok_X_holds ml_X_63 (by decide) d_X_delay_2 (q0 := 0) rfl rfl rfl rfl (Nat.le_of_ble_eq_true rfl) ?_
  intro r_2 u' hp
  obtain ⟨rfl, hp_2⟩ := hp
  refine j_if_ne C d_X_delay_5 (tgt := 12) (by decide) (rfl) (fun c_5 => ?_) (fun c_5 => ?_)
  · have t_5 := bool_t hp_2 c_5
    obtain ⟨i, hic, rfl, hbi⟩ := t_5
    have h9 := hr9 i (by omega)
    refine j_aload_n C d_X_delay_12 (a := h 0) rfl ?_
    refine x_get C 3 (v := .ref (h 1)) d_X_delay_13 (by decide) fl_X_3 rfl ?_
    refine j_iload_n C d_X_delay_16 (x := nI i) rfl ?_
    refine j_bald C 1 0 (f := fun ξ => nI ((N 1) ξ)) (i := i) (v := nI (N 1 i)) d_X_delay_17 rfl rfl (by omega) (by decide) rfl ?_
    have q_17 := hr9 i (by omega)
    refine j_istore_n C d_X_delay_18 (Nat.le_of_ble_eq_true rfl) (Nat.le_of_ble_eq_true rfl) (L' := [.ref (h 0), .int (nI i), .int (nI (N 1 i))]) rfl ?_
    refine j_iconst C d_X_delay_19 (v := nI 0) (by decide) ?_
    refine j_istore_n C d_X_delay_20 (Nat.le_of_ble_eq_true rfl) (Nat.le_of_ble_eq_true rfl) (L' := [.ref (h 0), .int (nI i), .int (nI (N 1 i)), .int (nI 0)]) rfl ?_
    refine j_iconst C d_X_delay_21 (v := nI 1) (by decide) ?_
    refine j_istore C d_X_delay_22 (Nat.le_of_ble_eq_true rfl) (Nat.le_of_ble_eq_true rfl) (L' := [.ref (h 0), .int (nI i), .int (nI (N 1 i)), .int (nI 0), .int (nI 1)]) rfl ?_
    refine j_iconst C d_X_delay_24 (v := nI 1) (by decide) ?_
    refine j_istore C d_X_delay_25 (Nat.le_of_ble_eq_true rfl) (Nat.le_of_ble_eq_true rfl) (L' := [.ref (h 0), .int (nI i), .int (nI (N 1 i)), .int (nI 0), .int (nI 1), .int (nI 1)]) rfl ?_
    refine j_same (u' := (cp, cap, pr, fo, fb, pn, be, sc (relN N i (N 1 i)) (N 7) (N 8))) (by rw [rel_id, sc_self]) ?_
    have key : ∀ q, q ≤ 10 → ∀ gd a v pn1 be1 rd pd, DLP (fun q => FE (relN N i (N 1 i + q)) fo fb pr cap) q gd a → J l D K (wX h cs) (cp, cap, pr, fo, fb, pn1, be1, sc (relN N i v) rd pd) 27 [.ref (h 0), .int (nI i), .int (nI (N 1 i)), .int (nI a), .int (nI gd), .int (nI q)] [] := by
      refine up_ind 10 ?_
      intro q hq ih gd a v pn1 be1 rd pd hF
      have hgd : gd ≤ 1 ∧ a ≤ 9 ∧ 1 ≤ q := by rcases hF with ⟨z1, z2, z3, -⟩ | ⟨z1, z2, z3, -⟩ <;> omega
      refine j_iload C d_X_delay_27 (x := nI q) rfl ?_
      refine j_bipush C d_X_delay_29 (v := nI 9) (by decide) ?_
      refine j_icmp_gt C d_X_delay_31 (tgt := 70) (by decide) (tI q (by omega)) (tI 9 (by decide)) (fun c_31 => ?_) (fun c_31 => ?_)
      · have hE := DLP_end hF (by omega)
        refine j_aload_n C d_X_delay_70 (a := h 0) rfl ?_
        refine x_get C 3 (v := .ref (h 1)) d_X_delay_71 (by decide) fl_X_3 rfl ?_
        refine j_iload_n C d_X_delay_74 (x := nI i) rfl ?_
        refine j_iload_n C d_X_delay_75 (x := nI (N 1 i)) rfl ?_
        refine j_i2b C d_X_delay_76 (z := nI (N 1 i)) (b_byte (by omega)) ?_
        refine j_bast C 1 0 (g := va_up (N 1) i v) (i := i) (v := N 1 i) (u' := (cp, cap, pr, fo, fb, pn1, be1, va_up (sc (relN N i v) rd pd) 1 (va_up (va_up (N 1) i v) i (N 1 i)))) d_X_delay_77 rfl rfl (by omega) (by decide) (by omega) rfl ?_
        rw [rel_sc, rel_id]
        refine j_iload_n C d_X_delay_78 (x := nI a) rfl ?_
        exact hret _ _ _ _ d_X_delay_79 rfl ⟨pn1, be1, rd, pd, rfl, Or.inr ⟨i, a, rfl, hic, hbi, rfl, hE⟩⟩
      · refine j_iload C d_X_delay_34 (x := nI gd) rfl ?_
        refine j_if_eq C d_X_delay_36 (tgt := 70) (by decide) (tI gd (by omega)) (fun c_36 => ?_) (fun c_36 => ?_)
        · have hE := DLP_end hF (by omega)
          refine j_aload_n C d_X_delay_70 (a := h 0) rfl ?_
          refine x_get C 3 (v := .ref (h 1)) d_X_delay_71 (by decide) fl_X_3 rfl ?_
          refine j_iload_n C d_X_delay_74 (x := nI i) rfl ?_
          refine j_iload_n C d_X_delay_75 (x := nI (N 1 i)) rfl ?_
          refine j_i2b C d_X_delay_76 (z := nI (N 1 i)) (b_byte (by omega)) ?_
          refine j_bast C 1 0 (g := va_up (N 1) i v) (i := i) (v := N 1 i) (u' := (cp, cap, pr, fo, fb, pn1, be1, va_up (sc (relN N i v) rd pd) 1 (va_up (va_up (N 1) i v) i (N 1 i)))) d_X_delay_77 rfl rfl (by omega) (by decide) (by omega) rfl ?_
          rw [rel_sc, rel_id]
          refine j_iload_n C d_X_delay_78 (x := nI a) rfl ?_
          exact hret _ _ _ _ d_X_delay_79 rfl ⟨pn1, be1, rd, pd, rfl, Or.inr ⟨i, a, rfl, hic, hbi, rfl, hE⟩⟩
        · obtain ⟨-, hd1, hd2, hd3⟩ := hF.resolve_right (fun z => by omega)
          refine j_aload_n C d_X_delay_39 (a := h 0) rfl ?_
          refine x_get C 3 (v := .ref (h 1)) d_X_delay_40 (by decide) fl_X_3 rfl ?_
          refine j_iload_n C d_X_delay_43 (x := nI i) rfl ?_
          refine j_iload_n C d_X_delay_44 (x := nI (N 1 i)) rfl ?_
          refine j_iload C d_X_delay_45 (x := nI q) rfl ?_
          refine j_iadd C d_X_delay_47 (z := nI ((N 1 i) + q)) (nI_add _ _) ?_
          refine j_i2b C d_X_delay_48 (z := nI ((N 1 i) + q)) (b_byte (by omega)) ?_
          refine j_bast C 1 0 (g := va_up (N 1) i v) (i := i) (v := (N 1 i) + q) (u' := (cp, cap, pr, fo, fb, pn1, be1, va_up (sc (relN N i v) rd pd) 1 (va_up (va_up (N 1) i v) i ((N 1 i) + q)))) d_X_delay_49 rfl rfl (by omega) (by decide) (by omega) rfl ?_
          rw [rel_sc]
          refine j_aload_n C d_X_delay_50 (a := h 0) rfl ?_
          refine j_calli C (c_X_withinCap l D h cs (N := sc (relN N i (N 1 i + q)) rd pd) (rk := rk) hpr (okN_rel hN (by omega)) hlen hA hfo hfb hcap) (As := []) (rest := []) ok_X_withinCap ml_X_59 (by decide) d_X_delay_51 (q0 := 0) rfl rfl rfl rfl (Nat.le_of_ble_eq_true rfl) ?_
          intro r_51 u' hq3
          obtain ⟨pn', be', rd', pd', rfl, hp_51⟩ := hq3
          refine j_same (u' := (cp, cap, pr, fo, fb, pn', be', sc (relN N i (N 1 i + q)) rd' pd')) rfl ?_
          have hp_51 : (r_51 = nI 1 ∧ FE (relN N i (N 1 i + q)) fo fb pr cap) ∨ (r_51 = nI 0 ∧ ¬ FE (relN N i (N 1 i + q)) fo fb pr cap) := hp_51
          refine j_istore C d_X_delay_54 (Nat.le_of_ble_eq_true rfl) (Nat.le_of_ble_eq_true rfl) (L' := [.ref (h 0), .int (nI i), .int (nI (N 1 i)), .int (nI a), .int r_51, .int (nI q)]) rfl ?_
          refine j_iload C d_X_delay_56 (x := r_51) rfl ?_
          refine j_if_eq C d_X_delay_58 (tgt := 64) (by decide) (rfl) (fun c_58 => ?_) (fun c_58 => ?_)
          · have t_58 := bool_f hp_51 c_58
            obtain ⟨rfl, hnq⟩ := bool_r0 hp_51 c_58
            have hnew : DLP (fun q => FE (relN N i (N 1 i + q)) fo fb pr cap) (q + 1) 0 a := Or.inr ⟨rfl, by omega, by omega, fun x x1 x2 => hd3 x x1 (by omega), by rw [show a + 1 = q by omega]; exact hnq⟩
            refine j_iinc C d_X_delay_64 (Nat.le_of_ble_eq_true rfl) (x := nI q) (v := nI (q + 1)) rfl (nI_add _ _) (L' := [.ref (h 0), .int (nI i), .int (nI (N 1 i)), .int (nI a), .int (nI 0), .int (nI (q + 1))]) rfl ?_
            refine j_goto C d_X_delay_67 (tgt := 27) (by decide) ?_
            exact ih (by omega) _ _ _ _ _ _ _ hnew
          · have t_58 := bool_t hp_51 c_58
            obtain ⟨rfl, hnq⟩ := bool_r1 hp_51 c_58
            have hnew : DLP (fun q => FE (relN N i (N 1 i + q)) fo fb pr cap) (q + 1) 1 q := Or.inl ⟨rfl, rfl, by omega, fun x x1 x2 => by rcases lt_succ_cases x2 with z | rfl; exact hd3 x x1 z; exact hnq⟩
            refine j_iload C d_X_delay_61 (x := nI q) rfl ?_
            refine j_istore_n C d_X_delay_63 (Nat.le_of_ble_eq_true rfl) (Nat.le_of_ble_eq_true rfl) (L' := [.ref (h 0), .int (nI i), .int (nI (N 1 i)), .int (nI q), .int (nI 1), .int (nI q)]) rfl ?_
            refine j_iinc C d_X_delay_64 (Nat.le_of_ble_eq_true rfl) (x := nI q) (v := nI (q + 1)) rfl (nI_add _ _) (L' := [.ref (h 0), .int (nI i), .int (nI (N 1 i)), .int (nI q), .int (nI 1), .int (nI (q + 1))]) rfl ?_
            refine j_goto C d_X_delay_67 (tgt := 27) (by decide) ?_
            exact ih (by omega) _ _ _ _ _ _ _ hnew
    exact key 1 (by omega) 1 0 _ _ _ _ _ (Or.inl ⟨rfl, rfl, by omega, fun x x1 x2 => by omega⟩)
  · have t_5 := bool_f hp_2 c_5
    refine j_sipush C d_X_delay_8 (v := (-2000)) (by decide) ?_
    exact hret _ _ _ _ d_X_delay_11 rfl ⟨pn, be, N 7, N 8, by rw [sc_self], Or.inl ⟨t_5, rfl⟩⟩
theorem d_X_couldPrecede_0 : decode b_X_couldPrecede 0 = .ok (.aload_n 0, 1) := by decide +kernel
theorem d_X_couldPrecede_1 : decode b_X_couldPrecede 1 = .ok (.iload_n 1, 1) := by decide +kernel
theorem d_X_couldPrecede_2 : decode b_X_couldPrecede 2 = .ok (.iload_n 2, 1) := by decide +kernel
theorem d_X_couldPrecede_3 : decode b_X_couldPrecede 3 = .ok (.invokevirtual 67, 3) := by decide +kernel
theorem d_X_couldPrecede_6 : decode b_X_couldPrecede 6 = .ok (.istore_n 3, 1) := by decide +kernel
theorem d_X_couldPrecede_7 : decode b_X_couldPrecede 7 = .ok (.aload_n 0, 1) := by decide +kernel
theorem d_X_couldPrecede_8 : decode b_X_couldPrecede 8 = .ok (.iload_n 1, 1) := by decide +kernel
theorem d_X_couldPrecede_9 : decode b_X_couldPrecede 9 = .ok (.iload_n 2, 1) := by decide +kernel
theorem d_X_couldPrecede_10 : decode b_X_couldPrecede 10 = .ok (.invokevirtual 117, 3) := by decide +kernel
theorem d_X_couldPrecede_13 : decode b_X_couldPrecede 13 = .ok (.istore 4, 2) := by decide +kernel
theorem d_X_couldPrecede_15 : decode b_X_couldPrecede 15 = .ok (.iload 4, 2) := by decide +kernel
theorem d_X_couldPrecede_17 : decode b_X_couldPrecede 17 = .ok (.ifCond .ne 14, 3) := by decide +kernel
theorem d_X_couldPrecede_20 : decode b_X_couldPrecede 20 = .ok (.iload_n 3, 1) := by decide +kernel
theorem d_X_couldPrecede_21 : decode b_X_couldPrecede 21 = .ok (.ifCond .ne 10, 3) := by decide +kernel
theorem d_X_couldPrecede_24 : decode b_X_couldPrecede 24 = .ok (.aload_n 0, 1) := by decide +kernel
theorem d_X_couldPrecede_25 : decode b_X_couldPrecede 25 = .ok (.iload_n 1, 1) := by decide +kernel
theorem d_X_couldPrecede_26 : decode b_X_couldPrecede 26 = .ok (.iload_n 2, 1) := by decide +kernel
theorem d_X_couldPrecede_27 : decode b_X_couldPrecede 27 = .ok (.invokevirtual 120, 3) := by decide +kernel
theorem d_X_couldPrecede_30 : decode b_X_couldPrecede 30 = .ok (.pop, 1) := by decide +kernel
theorem d_X_couldPrecede_31 : decode b_X_couldPrecede 31 = .ok (.iload 4, 2) := by decide +kernel
theorem d_X_couldPrecede_33 : decode b_X_couldPrecede 33 = .ok (.ifCond .ne 7, 3) := by decide +kernel
theorem d_X_couldPrecede_36 : decode b_X_couldPrecede 36 = .ok (.iconst 1, 1) := by decide +kernel
theorem d_X_couldPrecede_37 : decode b_X_couldPrecede 37 = .ok (.goto 4, 3) := by decide +kernel
theorem d_X_couldPrecede_40 : decode b_X_couldPrecede 40 = .ok (.iconst 0, 1) := by decide +kernel
theorem d_X_couldPrecede_41 : decode b_X_couldPrecede 41 = .ok (.ireturn, 1) := by decide +kernel
theorem lnk_new {cp : Nat} {cap : Int} {pr : Nat} {fo : Int} {fb : Nat} {N N0 : Nat → Nat → Nat} {x y r : Int32} (h : LnkX cp cap pr fo fb N x y r N0) (h0 : r.toInt = 0) (hn : ¬ lkd cp pr (N 6) x y) : ∃ i j, x = nI i ∧ y = nI j ∧ i < cp ∧ j < cp ∧ pr.testBit i = true ∧ pr.testBit j = true ∧ (N 6 i).testBit j = false ∧ N0 = folN N i (N 6 i ||| 2 ^ j) := by
  rcases h with ⟨rfl, -, -⟩ | ⟨i, j, h1, h2, h3, h4, h5, h6, h7, h8⟩
  · exact absurd h0 (by decide)
  · rcases h8 with ⟨-, -, h9⟩ | ⟨h9, h10⟩
    · exact absurd ⟨i, j, h1, h2, h4, h5, h6, h7, h9⟩ hn
    · rcases h10 with ⟨rfl, -, -⟩ | ⟨-, h11⟩
      · exact absurd h0 (by decide)
      · rcases h11 with ⟨-, h12, -⟩ | ⟨rfl, -, -⟩
        · exact ⟨i, j, h1, h2, h4, h5, h6, h7, h9, h12⟩
        · exact absurd h0 (by decide)
theorem lnk_old {cp : Nat} {cap : Int} {pr : Nat} {fo : Int} {fb : Nat} {N N0 : Nat → Nat → Nat} {x y r : Int32} (hcp : cp ≤ 5) (h : LnkX cp cap pr fo fb N x y r N0) (h0 : r.toInt ≠ 0 ∨ lkd cp pr (N 6) x y) : N0 = N := by
  rcases h with ⟨-, h, -⟩ | ⟨i, j, h1, h2, h3, h4, h5, h6, h7, h8⟩
  · exact h
  · rcases h8 with ⟨-, h9, -⟩ | ⟨h9, h10⟩
    · exact h9
    · rcases h10 with ⟨-, h11, -⟩ | ⟨-, h11⟩
      · exact h11
      · rcases h11 with ⟨rfl, -, -⟩ | ⟨-, h12, -⟩
        · rcases h0 with h0 | h0
          · exact absurd (tI 0 (by decide)) h0
          · rw [h1, h2] at h0
            have := lkd_n hcp (by omega) (by omega) h0
            rw [h9] at this; cases this
        · exact h12
def CouX (cp : Nat) (cap : Int) (pr : Nat) (fo : Int) (fb : Nat) (N : Nat → Nat → Nat) (x y r : Int32) : Prop := ∃ r0 N0, LnkX cp cap pr fo fb N x y r0 N0 ∧ ((r = nI 1 ∧ r0.toInt = 0) ∨ (r = nI 0 ∧ r0.toInt ≠ 0))
set_option maxHeartbeats 4000000 in
set_option maxRecDepth 100000 in
/-- couldPrecede(x, y) -/
theorem c_X_couldPrecede (l : Launch) (D : va_G) (h : Nat → Nat) (cs : Nat → ClassId) {cp : Nat} {cap : Int} {pr : Nat} {fo : Int} {fb pn be : Nat} {N : Nat → Nat → Nat} {rk : Nat → Nat} (hcp : cp ≤ 5) (hpr : pr < 32) (hN : okN N) (hlen : ∀ j, pr.testBit j = true → 1 ≤ N 2 j) (hA : Acy pr (N 6) rk) (hfo : -1 ≤ fo ∧ fo < 5) (hfb : fb ≤ 60) (hcap : -200 ≤ cap ∧ cap ≤ 1000) (hsub : ∀ a, pr.testBit a = true → ∀ v, (N 6 a).testBit v = true → pr.testBit v = true) (x y : Int32) : CI l y_X_couldPrecede b_X_couldPrecede 5 .boolean 6 D (tysX cs) (wX h cs) (cp, cap, pr, fo, fb, pn, be, N) [.ref (h 0), .int x, .int y] (fun r u' => ∃ pn' be' rd pd, u' = (cp, cap, pr, fo, fb, pn', be', sc N rd pd) ∧ CouX cp cap pr fo fb N x y r) := by
  refine CI_of ok_X_couldPrecede (Nat.le_of_ble_eq_true rfl) (cat_all rfl) ?_
  intro K C hret
  have C : Kok D (tysX cs) K b_X_couldPrecede 5 R_X 6 := C
  refine j_aload_n C d_X_couldPrecede_0 (a := h 0) rfl ?_
  refine j_iload_n C d_X_couldPrecede_1 (x := x) rfl ?_
  refine j_iload_n C d_X_couldPrecede_2 (x := y) rfl ?_
  refine j_calli C (c_X_linked l D h cs hcp hpr hN x y) (As := [.int x, .int y]) (rest := []) ok_X_linked ml_X_67 (by decide) d_X_couldPrecede_3 (q0 := 0) rfl rfl rfl rfl (Nat.le_of_ble_eq_true rfl) ?_
  intro r_3 u' hp
  obtain ⟨rfl, hp_3⟩ := hp
  refine j_istore_n C d_X_couldPrecede_6 (Nat.le_of_ble_eq_true rfl) (Nat.le_of_ble_eq_true rfl) (L' := [.ref (h 0), .int x, .int y, .int r_3]) rfl ?_
  refine j_aload_n C d_X_couldPrecede_7 (a := h 0) rfl ?_
  refine j_iload_n C d_X_couldPrecede_8 (x := x) rfl ?_
  refine j_iload_n C d_X_couldPrecede_9 (x := y) rfl ?_
  refine j_calli C (c_X_link l D h cs hcp hpr hN hlen hA hfo hfb hcap hsub x y) (As := [.int x, .int y]) (rest := []) ok_X_link ml_X_117 (by decide) d_X_couldPrecede_10 (q0 := 0) rfl rfl rfl rfl (Nat.le_of_ble_eq_true rfl) ?_
  intro r4 u' hq
  obtain ⟨N0, pn', be', rd, pd, rfl, hE⟩ := hq
  refine j_istore C d_X_couldPrecede_13 (Nat.le_of_ble_eq_true rfl) (Nat.le_of_ble_eq_true rfl) (L' := [.ref (h 0), .int x, .int y, .int r_3, .int r4]) rfl ?_
  refine j_iload C d_X_couldPrecede_15 (x := r4) rfl ?_
  refine j_if_ne C d_X_couldPrecede_17 (tgt := 31) (by decide) (rfl) (fun c_17 => ?_) (fun c_17 => ?_)
  · obtain rfl := lnk_old hcp hE (Or.inl c_17)
    refine j_iload C d_X_couldPrecede_31 (x := r4) rfl ?_
    refine j_if_ne C d_X_couldPrecede_33 (tgt := 40) (by decide) (rfl) (fun c_33 => ?_) (fun c_33 => ?_)
    · refine j_iconst C d_X_couldPrecede_40 (v := nI 0) (by decide) ?_
      exact hret _ _ _ _ d_X_couldPrecede_41 rfl ⟨pn', be', rd, pd, rfl, r4, _, hE, by first | exact Or.inl ⟨rfl, by assumption⟩ | exact Or.inr ⟨rfl, by assumption⟩⟩
    · refine j_iconst C d_X_couldPrecede_36 (v := nI 1) (by decide) ?_
      refine j_goto C d_X_couldPrecede_37 (tgt := 41) (by decide) ?_
      exact hret _ _ _ _ d_X_couldPrecede_41 rfl ⟨pn', be', rd, pd, rfl, r4, _, hE, by first | exact Or.inl ⟨rfl, by assumption⟩ | exact Or.inr ⟨rfl, by assumption⟩⟩
  · refine j_iload_n C d_X_couldPrecede_20 (x := r_3) rfl ?_
    refine j_if_ne C d_X_couldPrecede_21 (tgt := 31) (by decide) (rfl) (fun c_21 => ?_) (fun c_21 => ?_)
    · have t_21 := bool_t hp_3 c_21
      obtain rfl := lnk_old hcp hE (Or.inr t_21)
      refine j_iload C d_X_couldPrecede_31 (x := r4) rfl ?_
      refine j_if_ne C d_X_couldPrecede_33 (tgt := 40) (by decide) (rfl) (fun c_33 => ?_) (fun c_33 => ?_)
      · refine j_iconst C d_X_couldPrecede_40 (v := nI 0) (by decide) ?_
        exact hret _ _ _ _ d_X_couldPrecede_41 rfl ⟨pn', be', rd, pd, rfl, r4, _, hE, by first | exact Or.inl ⟨rfl, by assumption⟩ | exact Or.inr ⟨rfl, by assumption⟩⟩
      · refine j_iconst C d_X_couldPrecede_36 (v := nI 1) (by decide) ?_
        refine j_goto C d_X_couldPrecede_37 (tgt := 41) (by decide) ?_
        exact hret _ _ _ _ d_X_couldPrecede_41 rfl ⟨pn', be', rd, pd, rfl, r4, _, hE, by first | exact Or.inl ⟨rfl, by assumption⟩ | exact Or.inr ⟨rfl, by assumption⟩⟩
    · have t_21 := bool_f hp_3 c_21
      obtain ⟨i, j, rfl, rfl, hi, hj, hbi, hbj, hnb, rfl⟩ := lnk_new hE c_17 t_21
      have h6 := (hN i (by omega)).2.2.2.2.2
      have hor := or_lt h6 (pow_lt (show j < 5 by omega))
      refine j_aload_n C d_X_couldPrecede_24 (a := h 0) rfl ?_
      refine j_iload_n C d_X_couldPrecede_25 (x := nI i) rfl ?_
      refine j_iload_n C d_X_couldPrecede_26 (x := nI j) rfl ?_
      refine j_calli C (c_X_unlink l D h cs (N := sc (folN N i (N 6 i ||| 2 ^ j)) rd pd) hcp hpr (okN_fol hN hor) (nI i) (nI j)) (As := [.int (nI i), .int (nI j)]) (rest := []) ok_X_unlink ml_X_120 (by decide) d_X_couldPrecede_27 (q0 := 0) rfl rfl rfl rfl (Nat.le_of_ble_eq_true rfl) ?_
      intro r5 u' hq
      have hu : u' = (cp, cap, pr, fo, fb, pn', be', sc N rd pd) := by
        rcases hq with ⟨-, -, z⟩ | ⟨i', j', z1, z2, z3, z4, z5, z6, z7, -, z8⟩
        · exact absurd ⟨i, j, rfl, rfl, hi, hj, hbi, hbj, by show (va_up (N 6) i (N 6 i ||| 2 ^ j) i).testBit j = true; rw [va_up_self, or_bit]; exact Or.inr rfl⟩ z
        · obtain rfl := nI_inj (by omega) (by omega) z1
          obtain rfl := nI_inj (by omega) (by omega) z2
          have e6 : sc (folN N i (N 6 i ||| 2 ^ j)) rd pd 6 i = (N 6 i ||| 2 ^ j) := va_up_self _ _ _
          rw [e6, sc_fol, fol_back N i _ _ (or_dif h6 (by omega) hnb)] at z8
          exact z8
      subst hu
      refine j_pop C d_X_couldPrecede_30 rfl ?_
      refine j_iload C d_X_couldPrecede_31 (x := r4) rfl ?_
      refine j_if_ne C d_X_couldPrecede_33 (tgt := 40) (by decide) (rfl) (fun c_33 => ?_) (fun c_33 => ?_)
      · refine j_iconst C d_X_couldPrecede_40 (v := nI 0) (by decide) ?_
        exact hret _ _ _ _ d_X_couldPrecede_41 rfl ⟨pn', be', rd, pd, rfl, r4, _, hE, by first | exact Or.inl ⟨rfl, by assumption⟩ | exact Or.inr ⟨rfl, by assumption⟩⟩
      · refine j_iconst C d_X_couldPrecede_36 (v := nI 1) (by decide) ?_
        refine j_goto C d_X_couldPrecede_37 (tgt := 41) (by decide) ?_
        exact hret _ _ _ _ d_X_couldPrecede_41 rfl ⟨pn', be', rd, pd, rfl, r4, _, hE, by first | exact Or.inl ⟨rfl, by assumption⟩ | exact Or.inr ⟨rfl, by assumption⟩⟩
end
section
/-! ===== the model's states: two bits a job ===== -/
def dg (s j : Nat) : Nat := s / 2 ^ (2 * j) % 4
theorem dg_lt (s j : Nat) : dg s j < 4 := Nat.mod_lt _ (by omega)
theorem nI_dg {s i : Nat} (hs : s < 2147483648) : nI (s / 2 ^ (2 * i)) &&& nI 3 = nI (dg s i) := nI_and3 (Nat.lt_of_le_of_lt (Nat.div_le_self _ _) hs)
theorem c5 {j : Nat} (h : j < 5) : j = 0 ∨ j = 1 ∨ j = 2 ∨ j = 3 ∨ j = 4 := by omega
theorem dg_add {s j : Nat} (hs : s < 1024) (hj : j < 5) (hd : dg s j < 3) : s + 2 ^ (2 * j) < 1024 ∧ dg (s + 2 ^ (2 * j)) j = dg s j + 1 ∧ ∀ i, i < 5 → i ≠ j → dg (s + 2 ^ (2 * j)) i = dg s i := by
  unfold dg at *
  rcases c5 hj with rfl | rfl | rfl | rfl | rfl <;> simp only [Nat.reduceMul, Nat.reducePow] at hd ⊢ <;> refine ⟨by omega, by omega, fun i hi hne => ?_⟩ <;> rcases c5 hi with rfl | rfl | rfl | rfl | rfl <;> simp only [Nat.reduceMul, Nat.reducePow] <;> omega
/-- a state out of five digits -/
def enc (f : Nat → Nat) : Nat := f 0 + 4 * f 1 + 16 * f 2 + 64 * f 3 + 256 * f 4
theorem dg_enc {f : Nat → Nat} (hf : ∀ j, j < 5 → f j < 4) {j : Nat} (hj : j < 5) : dg (enc f) j = f j := by
  have h0 := hf 0 (by omega)
  have h1 := hf 1 (by omega)
  have h2 := hf 2 (by omega)
  have h3 := hf 3 (by omega)
  have h4 := hf 4 (by omega)
  unfold dg enc
  rcases c5 hj with rfl | rfl | rfl | rfl | rfl <;> simp only [Nat.reduceMul, Nat.reducePow] <;> omega
theorem enc_dg {s : Nat} (hs : s < 1024) : enc (dg s) = s := by
  unfold enc dg
  simp only [Nat.reduceMul, Nat.reducePow]
  omega
theorem enc_lt {f : Nat → Nat} (hf : ∀ j, j < 5 → f j < 4) : enc f < 1024 := by
  have h0 := hf 0 (by omega)
  have h1 := hf 1 (by omega)
  have h2 := hf 2 (by omega)
  have h3 := hf 3 (by omega)
  have h4 := hf 4 (by omega)
  unfold enc
  omega
theorem enc_le {f g : Nat → Nat} (h : ∀ j, j < 5 → f j ≤ g j) : enc f ≤ enc g := by
  have h0 := h 0 (by omega)
  have h1 := h 1 (by omega)
  have h2 := h 2 (by omega)
  have h3 := h 3 (by omega)
  have h4 := h 4 (by omega)
  unfold enc
  omega
theorem enc_congr {f g : Nat → Nat} (h : ∀ j, j < 5 → f j = g j) : enc f = enc g := by
  unfold enc
  rw [h 0 (by omega), h 1 (by omega), h 2 (by omega), h 3 (by omega), h 4 (by omega)]
/-- may job j have unit t from the state s; does it cost at most c -/
def UU (N : Nat → Nat → Nat) (mi : Int) (mb s t j : Nat) : Prop := N 1 j = 1 ∧ dg s j < N 3 j ∧ N 2 j ≤ t ∧ (∀ i, i < 5 → N 1 i = 1 → (N 7 j).testBit i = true → N 3 i ≤ dg s i) ∧ ((j : Int) ≠ mi ∨ t < mb)
def FF (N : Nat → Nat → Nat) (c : Int) (s t j : Nat) : Prop := dg s j + 1 = N 3 j → cst (N 4 j) (N 5 j) (N 6 j) (t + 1) ≤ c
/-- the states that can be reached within t units with costs up to c -/
def Rch (N : Nat → Nat → Nat) (mi : Int) (mb : Nat) (c : Int) : Nat → Nat → Prop
  | 0, q => q = 0
  | t + 1, q => Rch N mi mb c t q ∨ ∃ s j, j < 5 ∧ Rch N mi mb c t s ∧ UU N mi mb s t j ∧ FF N c s t j ∧ q = s + 2 ^ (2 * j)
/-- the model's arrays: who is held, ranges -/
def okM (pr : Nat) (N : Nat → Nat → Nat) : Prop := (∀ j, j < 5 → N 1 j = if pr.testBit j = true then 1 else 0) ∧ ∀ j, j < 5 → N 2 j ≤ 18 ∧ N 3 j ≤ 3 ∧ N 4 j ≤ 3 ∧ N 5 j ≤ 30 ∧ N 6 j ≤ 5 ∧ N 7 j < 32
theorem okM_1 {pr : Nat} {N : Nat → Nat → Nat} (h : okM pr N) {j : Nat} (hj : j < 5) : N 1 j = 1 ↔ pr.testBit j = true := by
  rw [h.1 j hj]
  by_cases hc : pr.testBit j = true
  · simp [hc]
  · simp [hc]
def EM (N : Nat → Nat → Nat) (i j : Nat) : Prop := (N 7 j).testBit i = true
def okm (N : Nat → Nat → Nat) (mi : Int) (mb : Nat) (c : Int) (j t : Nat) : Prop := ((j : Int) ≠ mi ∨ t < mb) ∧ cst (N 4 j) (N 5 j) (N 6 j) (t + 1) ≤ c
/-- the state in which all is done -/
def fullN (N : Nat → Nat → Nat) : Nat := enc (fun j => if N 1 j = 1 then N 3 j else 0)
/-- a plan within T units -/
def FeasT (g : Nat) (rel len : Nat → Nat) (E ok : Nat → Nat → Prop) (T : Nat) : Prop := ∃ σ, Val g rel len E ok σ ∧ ∀ j, g.testBit j = true → len j ≤ cnt σ j T
def cutT (T : Nat) (σ : Nat → Nat) (t : Nat) : Nat := if t < T then σ t else 5
theorem cutT_lt {T : Nat} {σ : Nat → Nat} {t : Nat} (h : t < T) : cutT T σ t = σ t := if_pos h
theorem cutT_ge {T : Nat} {σ : Nat → Nat} {t : Nat} (h : ¬ t < T) : cutT T σ t = 5 := if_neg h
theorem cutT_cnt {T : Nat} {σ : Nat → Nat} {j t : Nat} (h : t ≤ T) : cnt (cutT T σ) j t = cnt σ j t := cnt_same fun u hu => by rw [cutT_lt (by omega)]
/-- a plan out of what holds below T alone -/
theorem feasT_of {g : Nat} {rel len : Nat → Nat} {E ok : Nat → Nat → Prop} {T : Nat} {σ : Nat → Nat} (v : ∀ t, t < T → σ t < 5 → g.testBit (σ t) = true ∧ cnt σ (σ t) t < len (σ t) ∧ rel (σ t) ≤ t ∧ ok (σ t) t ∧ ∀ i, g.testBit i = true → E i (σ t) → len i ≤ cnt σ i t) (hc : ∀ j, g.testBit j = true → len j ≤ cnt σ j T) : FeasT g rel len E ok T := by
  refine ⟨cutT T σ, fun t ht => ?_, fun j hj => by rw [cutT_cnt (Nat.le_refl _)]; exact hc j hj⟩
  by_cases h : t < T
  · rw [cutT_lt h] at ht ⊢
    obtain ⟨v1, v2, v3, v4, v5⟩ := v t h ht
    exact ⟨v1, by rw [cutT_cnt (by omega)]; exact v2, v3, v4, fun i hi hE => by rw [cutT_cnt (by omega)]; exact v5 i hi hE⟩
  · rw [cutT_ge h] at ht
    omega
theorem feasT_ok {g : Nat} {rel len : Nat → Nat} {E ok ok' : Nat → Nat → Prop} {T : Nat} (h : FeasT g rel len E ok T) (ho : ∀ j t, g.testBit j = true → t < T → ok j t → ok' j t) : FeasT g rel len E ok' T := by
  obtain ⟨σ, v, hc⟩ := h
  refine feasT_of (σ := σ) (fun t ht h5 => ?_) hc
  obtain ⟨v1, v2, v3, v4, v5⟩ := v t h5
  exact ⟨v1, v2, v3, ho _ t v1 ht v4, v5⟩
theorem feasT_cong {g : Nat} {rel rel' len len' : Nat → Nat} {E E' ok ok' : Nat → Nat → Prop} {T : Nat} (h : FeasT g rel len E ok T) (hr : ∀ j, g.testBit j = true → rel' j ≤ rel j) (hl : ∀ j, g.testBit j = true → len' j = len j) (hE : ∀ i j, g.testBit i = true → g.testBit j = true → E' i j → E i j) (ho : ∀ j t, g.testBit j = true → t < T → ok j t → ok' j t) : FeasT g rel' len' E' ok' T := by
  obtain ⟨σ, v, hc⟩ := h
  refine feasT_of (σ := σ) (fun t ht h5 => ?_) (fun j hj => by rw [hl j hj]; exact hc j hj)
  obtain ⟨v1, v2, v3, v4, v5⟩ := v t h5
  exact ⟨v1, by rw [hl _ v1]; exact v2, Nat.le_trans (hr _ v1) v3, ho _ t v1 ht v4, fun i hi he => by rw [hl i hi]; exact v5 i hi (hE i _ hi v1 he)⟩
section DP
variable {pr : Nat} {N : Nat → Nat → Nat} {mi : Int} {mb : Nat} {c : Int}
theorem rch_dg (hM : okM pr N) : ∀ t q, Rch N mi mb c t q → q < 1024 ∧ ∀ j, j < 5 → dg q j ≤ if N 1 j = 1 then N 3 j else 0 := by
  intro t
  induction t with
  | zero =>
    intro q h
    have : q = 0 := h
    subst this
    exact ⟨by omega, fun j _ => by unfold dg; rw [Nat.zero_div]; exact Nat.zero_le _⟩
  | succ t ih =>
    intro q h
    rcases h with h | ⟨s, j, hj, h1, h2, h3, rfl⟩
    · exact ih q h
    · obtain ⟨a1, a2⟩ := ih s h1
      have b1 := (hM.2 j hj).2.1
      obtain ⟨c1, c2, c3⟩ := dg_add a1 hj (by have := h2.2.1; omega)
      refine ⟨c1, fun i hi => ?_⟩
      by_cases hij : i = j
      · subst hij
        rw [c2, if_pos h2.1]
        exact h2.2.1
      · rw [c3 i hi hij]
        exact a2 i hi
theorem rch_le (hM : okM pr N) {t q : Nat} (h : Rch N mi mb c t q) : q ≤ fullN N := by
  obtain ⟨h1, h2⟩ := rch_dg hM t q h
  rw [← enc_dg h1]
  exact enc_le h2
theorem full_dg (hM : okM pr N) {j : Nat} (hj : j < 5) : dg (fullN N) j = if N 1 j = 1 then N 3 j else 0 := dg_enc (fun i hi => by
  have := (hM.2 i hi).2.1
  show (if N 1 i = 1 then N 3 i else 0) < 4
  split <;> omega) hj
theorem rch_plan (hM : okM pr N) : ∀ T q, Rch N mi mb c T q → ∃ σ : Nat → Nat, (∀ j, j < 5 → cnt σ j T = dg q j) ∧ ∀ t, t < T → σ t < 5 → N 1 (σ t) = 1 ∧ cnt σ (σ t) t < N 3 (σ t) ∧ N 2 (σ t) ≤ t ∧ (∀ i, i < 5 → N 1 i = 1 → (N 7 (σ t)).testBit i = true → N 3 i ≤ cnt σ i t) ∧ ((σ t : Int) ≠ mi ∨ t < mb) ∧ (cnt σ (σ t) t + 1 = N 3 (σ t) → cst (N 4 (σ t)) (N 5 (σ t)) (N 6 (σ t)) (t + 1) ≤ c) := by
  intro T
  induction T with
  | zero =>
    intro q h
    have : q = 0 := h
    subst this
    exact ⟨fun _ => 5, fun j _ => by unfold dg; rw [Nat.zero_div]; rfl, fun t ht => by omega⟩
  | succ T ih =>
    intro q h
    rcases h with h | ⟨s, j, hj, h1, h2, h3, rfl⟩
    · obtain ⟨σ, a1, a2⟩ := ih q h
      refine ⟨cutT T σ, fun j hj => ?_, fun t ht h5 => ?_⟩
      · rw [cnt_miss (by rw [cutT_ge (Nat.lt_irrefl _)]; omega), cutT_cnt (Nat.le_refl _)]
        exact a1 j hj
      · by_cases hc : t < T
        · rw [cutT_lt hc] at h5 ⊢
          obtain ⟨b1, b2, b3, b4, b5, b6⟩ := a2 t hc h5
          refine ⟨b1, by rw [cutT_cnt (by omega)]; exact b2, b3, fun i hi x1 x2 => by rw [cutT_cnt (by omega)]; exact b4 i hi x1 x2, b5, fun x => b6 (by rw [cutT_cnt (by omega)] at x; exact x)⟩
        · rw [cutT_ge hc] at h5
          omega
    · obtain ⟨σ, a1, a2⟩ := ih s h1
      obtain ⟨d1, -⟩ := rch_dg hM T s h1
      have b1 := (hM.2 j hj).2.1
      obtain ⟨c1, c2, c3⟩ := dg_add d1 hj (by have := h2.2.1; omega)
      have e1 : ∀ u, u < T → va_up σ T j u = σ u := fun u hu => va_up_ne _ _ (by omega)
      have e2 : va_up σ T j T = j := va_up_self _ _ _
      have e3 : ∀ i t, t ≤ T → cnt (va_up σ T j) i t = cnt σ i t := fun i t ht => cnt_same fun u hu => by rw [e1 u (by omega)]
      refine ⟨va_up σ T j, fun i hi => ?_, fun t ht h5 => ?_⟩
      · by_cases hij : i = j
        · subst hij
          rw [cnt_hit e2, e3 _ _ (Nat.le_refl _), a1 i hi, c2]
        · rw [cnt_miss (by rw [e2]; exact fun z => hij z.symm), e3 _ _ (Nat.le_refl _), a1 i hi, c3 i hi hij]
      · rcases lt_succ_cases ht with hc | rfl
        · rw [e1 t hc] at h5 ⊢
          obtain ⟨b1, b2, b3, b4, b5, b6⟩ := a2 t hc h5
          refine ⟨b1, by rw [e3 _ _ (by omega)]; exact b2, b3, fun i hi x1 x2 => by rw [e3 _ _ (by omega)]; exact b4 i hi x1 x2, b5, fun x => b6 (by rw [e3 _ _ (by omega)] at x; exact x)⟩
        · rw [e2, e3 _ _ (Nat.le_refl _), a1 j hj]
          exact ⟨h2.1, h2.2.1, h2.2.2.1, fun i hi x1 x2 => by rw [e3 _ _ (Nat.le_refl _), a1 i hi]; exact h2.2.2.2.1 i hi x1 x2, h2.2.2.2.2, h3⟩
theorem rch_feas (hp : pr < 32) (hM : okM pr N) {T : Nat} (h : Rch N mi mb c T (fullN N)) : FeasT pr (N 2) (N 3) (EM N) (okm N mi mb c) T := by
  obtain ⟨σ, a1, a2⟩ := rch_plan hM T _ h
  have hc : ∀ j, pr.testBit j = true → cnt σ j T = N 3 j := by
    intro j hj
    have hj5 := lt5_of hp hj
    rw [a1 j hj5, full_dg hM hj5, if_pos ((okM_1 hM hj5).mpr hj)]
  refine feasT_of (σ := σ) (fun t ht h5 => ?_) (fun j hj => Nat.le_of_eq (hc j hj).symm)
  obtain ⟨b1, b2, b3, b4, b5, b6⟩ := a2 t ht h5
  have hb := (okM_1 hM h5).mp b1
  refine ⟨hb, b2, b3, ⟨b5, ?_⟩, fun i hi he => b4 i (lt5_of hp hi) ((okM_1 hM (lt5_of hp hi)).mpr hi) he⟩
  rcases last_or (fun u => σ u = σ t) t T (by omega) with hn | ⟨u, u1, u2, u3, u4⟩
  · exact absurd rfl (hn t (Nat.le_refl _) ht)
  · obtain ⟨d1, d2, d3, d4, d5, d6⟩ := a2 u u2 (by omega)
    rw [u3] at d6
    have e1 : cnt σ (σ t) T = cnt σ (σ t) (u + 1) := cnt_none (by omega) (fun x x1 x2 => u4 x (by omega) x2)
    have e2 := cnt_hit u3
    have e3 := hc _ hb
    have e4 := d6 (by omega)
    have e5 := cst_mono (k := N 4 (σ t)) (d := N 5 (σ t)) (w := N 6 (σ t)) (t := t + 1) (t' := u + 1) (hM.2 _ h5).2.2.2.2.1 (by omega)
    omega
theorem feas_rch (hp : pr < 32) (hM : okM pr N) {T : Nat} (h : FeasT pr (N 2) (N 3) (EM N) (okm N mi mb c) T) : Rch N mi mb c T (fullN N) := by
  obtain ⟨σ, v, hc⟩ := h
  have hle : ∀ j, j < 5 → ∀ t, cnt σ j t < 4 := fun j hj t => by
    have := val_le v hj t
    have := (hM.2 j hj).2.1
    omega
  have key : ∀ t, Rch N mi mb c t (enc (fun j => cnt σ j t)) := by
    intro t
    induction t with
    | zero => exact rfl
    | succ t ih =>
      by_cases h5 : σ t < 5
      · refine Or.inr ⟨_, σ t, h5, ih, ?_, ?_, ?_⟩
        · obtain ⟨v1, v2, v3, v4, v5⟩ := v t h5
          have e : ∀ j, j < 5 → dg (enc (fun j => cnt σ j t)) j = cnt σ j t := fun j hj => dg_enc (fun i hi => hle i hi t) hj
          refine ⟨(okM_1 hM h5).mpr v1, by rw [e _ h5]; exact v2, v3, fun i hi x1 x2 => ?_, v4.1⟩
          rw [e i hi]
          exact v5 i ((okM_1 hM hi).mp x1) x2
        · intro _
          exact (v t h5).2.2.2.1.2
        · unfold enc
          rcases c5 h5 with z | z | z | z | z <;> simp [cnt, z] <;> omega
      · refine Or.inl ?_
        have e : enc (fun j => cnt σ j (t + 1)) = enc (fun j => cnt σ j t) := enc_congr fun j hj => cnt_miss (by omega)
        rw [e]
        exact ih
  have e : fullN N = enc (fun j => cnt σ j T) := by
    refine enc_congr fun j hj => ?_
    show (if N 1 j = 1 then N 3 j else 0) = cnt σ j T
    by_cases hb : pr.testBit j = true
    · rw [if_pos ((okM_1 hM hj).mpr hb)]
      exact Nat.le_antisymm (hc j hb) (val_le v hj T)
    · rw [if_neg (fun z => hb ((okM_1 hM hj).mp z)), val_none v hj (by simpa using hb)]
  rw [e]
  exact key T
end DP
end
section
/-! ===== the model's table ===== -/
def inR (B : Nat → Int) : Prop := ∀ q, q < 1024 → -2000 ≤ B q ∧ B q ≤ 9999
def OUP (N : Nat → Nat → Nat) (mi : Int) (mb s t k : Nat) (B0 B : Nat → Int) : Prop := inR B ∧ (∀ q, q ≤ s → B q = B0 q) ∧ ∀ c, -2000 ≤ c → c < 9999 → ∀ q, q < 1024 → (B q ≤ c ↔ B0 q ≤ c ∨ ∃ j, j < k ∧ UU N mi mb s t j ∧ FF N c s t j ∧ q = s + 2 ^ (2 * j) ∧ B0 s ≤ c)
section TABLE
variable {N : Nat → Nat → Nat} {mi : Int} {mb s t k : Nat} {B0 B : Nat → Int}
theorem OUP_0 (h : inR B0) : OUP N mi mb s t 0 B0 B0 := ⟨h, fun _ _ => rfl, fun c _ _ q _ => ⟨fun z => Or.inl z, fun z => z.elim id (fun ⟨j, hj, _⟩ => by omega)⟩⟩
theorem OUP_skip (h : OUP N mi mb s t k B0 B) (hn : ¬ UU N mi mb s t k) : OUP N mi mb s t (k + 1) B0 B := by
  refine ⟨h.1, h.2.1, fun c c1 c2 q hq => ?_⟩
  rw [h.2.2 c c1 c2 q hq]
  constructor
  · rintro (z | ⟨j, hj, z⟩)
    · exact Or.inl z
    · exact Or.inr ⟨j, by omega, z⟩
  · rintro (z | ⟨j, hj, z⟩)
    · exact Or.inl z
    · rcases lt_succ_cases hj with a | rfl
      · exact Or.inr ⟨j, a, z⟩
      · exact absurd z.1 hn
theorem two_pos (j : Nat) : 0 < 2 ^ (2 * j) := Nat.pow_pos (by omega)
theorem OUP_set {cc v : Int} (h : OUP N mi mb s t k B0 B) (hu : UU N mi mb s t k) (hs : s < 1024) (hto : s + 2 ^ (2 * k) < 1024) (hcc : ∀ c, -2000 ≤ c → (cc ≤ c ↔ FF N c s t k)) (hv : ∀ c, -2000 ≤ c → c < 9999 → (v ≤ c ↔ (cc ≤ c ∧ B s ≤ c) ∨ B (s + 2 ^ (2 * k)) ≤ c)) (hv1 : -2000 ≤ v ∧ v ≤ 9999) : OUP N mi mb s t (k + 1) B0 (va_up B (s + 2 ^ (2 * k)) v) := by
  have hp := two_pos k
  have hs0 := h.2.1 s (Nat.le_refl _)
  refine ⟨fun q hq => ?_, fun q hq => ?_, fun c c1 c2 q hq => ?_⟩
  · by_cases hc : q = s + 2 ^ (2 * k)
    · rw [hc, va_up_self]; exact hv1
    · rw [va_up_ne _ _ hc]; exact h.1 q hq
  · rw [va_up_ne _ _ (by omega)]; exact h.2.1 q hq
  · by_cases hc : q = s + 2 ^ (2 * k)
    · rw [hc, va_up_self, hv c c1 c2, h.2.2 c c1 c2 _ hto, hcc c c1, hs0]
      constructor
      · rintro (z | z | ⟨j, hj, z⟩)
        · exact Or.inr ⟨k, by omega, hu, z.1, rfl, z.2⟩
        · exact Or.inl z
        · exact Or.inr ⟨j, by omega, z⟩
      · rintro (z | ⟨j, hj, z⟩)
        · exact Or.inr (Or.inl z)
        · rcases lt_succ_cases hj with a | rfl
          · exact Or.inr (Or.inr ⟨j, a, z⟩)
          · exact Or.inl ⟨z.2.1, z.2.2.2⟩
    · rw [va_up_ne _ _ hc, h.2.2 c c1 c2 q hq]
      constructor
      · rintro (z | ⟨j, hj, z⟩)
        · exact Or.inl z
        · exact Or.inr ⟨j, by omega, z⟩
      · rintro (z | ⟨j, hj, z⟩)
        · exact Or.inl z
        · rcases lt_succ_cases hj with a | rfl
          · exact Or.inr ⟨j, a, z⟩
          · exact absurd z.2.2.1 hc
/-- unit t behind the states from m on; b: the table before it -/
def DPI (N : Nat → Nat → Nat) (mi : Int) (mb fu t m : Nat) (b B : Nat → Int) : Prop := inR B ∧ (∀ q, q ≤ m → B q = b q) ∧ ∀ c, -2000 ≤ c → c < 9999 → ∀ q, q < 1024 → (B q ≤ c ↔ b q ≤ c ∨ ∃ s j, m ≤ s ∧ s ≤ fu ∧ j < 5 ∧ UU N mi mb s t j ∧ FF N c s t j ∧ q = s + 2 ^ (2 * j) ∧ b s ≤ c)
theorem DPI_0 {fu : Nat} {b : Nat → Int} (h : inR b) : DPI N mi mb fu t (fu + 1) b b := ⟨h, fun _ _ => rfl, fun c _ _ q _ => ⟨fun z => Or.inl z, fun z => z.elim id (fun ⟨s, j, h1, h2, _⟩ => by omega)⟩⟩
theorem DPI_skip {fu m : Nat} {b : Nat → Int} (h : DPI N mi mb fu t (m + 1) b B) (hB : 9999 ≤ B m) : DPI N mi mb fu t m b B := by
  have hm := h.2.1 m (by omega)
  refine ⟨h.1, fun q hq => h.2.1 q (by omega), fun c c1 c2 q hq => ?_⟩
  rw [h.2.2 c c1 c2 q hq]
  constructor
  · rintro (z | ⟨s, j, z1, z2⟩)
    · exact Or.inl z
    · exact Or.inr ⟨s, j, by omega, z2⟩
  · rintro (z | ⟨s, j, z1, z2⟩)
    · exact Or.inl z
    · by_cases hc : s = m
      · have := z2.2.2.2.2.2
        rw [hc] at this
        omega
      · exact Or.inr ⟨s, j, by omega, z2⟩
theorem DPI_unit {fu m : Nat} {b B' : Nat → Int} (hfu : m ≤ fu) (hf : fu < 1024) (h : DPI N mi mb fu t (m + 1) b B) (hO : OUP N mi mb m t 5 B B') : DPI N mi mb fu t m b B' := by
  have hm := h.2.1 m (by omega)
  refine ⟨hO.1, fun q hq => by rw [hO.2.1 q hq]; exact h.2.1 q (by omega), fun c c1 c2 q hq => ?_⟩
  rw [hO.2.2 c c1 c2 q hq, h.2.2 c c1 c2 q hq, hm]
  constructor
  · rintro ((z | ⟨s, j, z1, z2⟩) | ⟨j, hj, z1, z2, z3, z4⟩)
    · exact Or.inl z
    · exact Or.inr ⟨s, j, by omega, z2⟩
    · exact Or.inr ⟨m, j, by omega, hfu, hj, z1, z2, z3, z4⟩
  · rintro (z | ⟨s, j, z1, z2, z3, z4, z5, z6, z7⟩)
    · exact Or.inl (Or.inl z)
    · by_cases hc : s = m
      · subst hc
        exact Or.inr ⟨j, z3, z4, z5, z6, z7⟩
      · exact Or.inl (Or.inr ⟨s, j, by omega, z2, z3, z4, z5, z6, z7⟩)
/-- the table behind t units -/
def DPP (N : Nat → Nat → Nat) (mi : Int) (mb t : Nat) (B : Nat → Int) : Prop := inR B ∧ ∀ c, -2000 ≤ c → c < 9999 → ∀ q, q < 1024 → (B q ≤ c ↔ Rch N mi mb c t q)
theorem DPP_0 (h0 : B 0 = -2000) (h : ∀ q, q < 1024 → q ≠ 0 → B q = 9999) : DPP N mi mb 0 B := by
  refine ⟨fun q hq => ?_, fun c c1 c2 q hq => ?_⟩
  · by_cases hc : q = 0
    · rw [hc, h0]; omega
    · rw [h q hq hc]; omega
  · show _ ↔ q = 0
    by_cases hc : q = 0
    · rw [hc, h0]; exact ⟨fun _ => rfl, fun _ => c1⟩
    · rw [h q hq hc]; exact ⟨fun z => by omega, fun z => absurd z hc⟩
theorem DPP_step {pr : Nat} {b : Nat → Int} (hM : okM pr N) (h : DPP N mi mb t b) (hI : DPI N mi mb (fullN N) t 0 b B) : DPP N mi mb (t + 1) B := by
  refine ⟨hI.1, fun c c1 c2 q hq => ?_⟩
  rw [hI.2.2 c c1 c2 q hq, h.2 c c1 c2 q hq]
  show _ ↔ (_ ∨ _)
  have hf : fullN N < 1024 := enc_lt fun i hi => by
    have := (hM.2 i hi).2.1
    show (if N 1 i = 1 then N 3 i else 0) < 4
    split <;> omega
  constructor
  · rintro (z | ⟨s, j, z1, z2, z3, z4, z5, z6, z7⟩)
    · exact Or.inl z
    · exact Or.inr ⟨s, j, z3, (h.2 c c1 c2 s (by omega)).mp z7, z4, z5, z6⟩
  · rintro (z | ⟨s, j, z3, z7, z4, z5, z6⟩)
    · exact Or.inl z
    · have hs := rch_le hM z7
      exact Or.inr ⟨s, j, by omega, hs, z3, z4, z5, z6, (h.2 c c1 c2 s (by omega)).mpr z7⟩
/-- the first time at which all is done -/
def FDP (N : Nat → Nat → Nat) (mi : Int) (mb t : Nat) (fd : Int) : Prop := (fullN N = 0 ∧ fd = 0) ∨ (fullN N ≠ 0 ∧ ((fd = -1 ∧ ∀ τ, τ ≤ t → ¬ Rch N mi mb 9998 τ (fullN N)) ∨ ∃ τ : Nat, fd = (τ : Int) ∧ τ ≤ t ∧ Rch N mi mb 9998 τ (fullN N) ∧ ∀ x, x < τ → ¬ Rch N mi mb 9998 x (fullN N)))
theorem FDP_0a (h : fullN N = 0) : FDP N mi mb 0 0 := Or.inl ⟨h, rfl⟩
theorem FDP_0b (h : fullN N ≠ 0) : FDP N mi mb 0 (-1) := Or.inr ⟨h, Or.inl ⟨rfl, fun τ hτ z => by
  have : τ = 0 := by omega
  subst this
  exact h z⟩⟩
theorem FDP_keep {fd : Int} (h : FDP N mi mb t fd) (h0 : 0 ≤ fd) : FDP N mi mb (t + 1) fd := by
  rcases h with h | ⟨h1, h2⟩
  · exact Or.inl h
  · rcases h2 with h2 | ⟨τ, a1, a2, a3⟩
    · omega
    · exact Or.inr ⟨h1, Or.inr ⟨τ, a1, by omega, a3⟩⟩
theorem FDP_not {fd : Int} (h : FDP N mi mb t fd) (h0 : fd < 0) (hn : ¬ Rch N mi mb 9998 (t + 1) (fullN N)) : FDP N mi mb (t + 1) fd := by
  rcases h with h | ⟨h1, h2⟩
  · omega
  · rcases h2 with ⟨a1, a2⟩ | ⟨τ, a1, a2, a3⟩
    · refine Or.inr ⟨h1, Or.inl ⟨a1, fun τ hτ => ?_⟩⟩
      rcases lt_succ_cases (show τ < (t + 1) + 1 by omega) with z | rfl
      · exact a2 τ (by omega)
      · exact hn
    · omega
theorem FDP_yes {fd : Int} (h : FDP N mi mb t fd) (h0 : fd < 0) (hn : Rch N mi mb 9998 (t + 1) (fullN N)) : FDP N mi mb (t + 1) ((t + 1 : Nat) : Int) := by
  rcases h with h | ⟨h1, h2⟩
  · omega
  · rcases h2 with ⟨a1, a2⟩ | ⟨τ, a1, a2, a3⟩
    · exact Or.inr ⟨h1, Or.inr ⟨t + 1, rfl, Nat.le_refl _, hn, fun x hx => a2 x (by omega)⟩⟩
    · omega
theorem FDP_bd {fd : Int} (h : FDP N mi mb t fd) : -1 ≤ fd ∧ fd ≤ t := by
  rcases h with h | ⟨h1, h2⟩
  · omega
  · rcases h2 with ⟨a1, a2⟩ | ⟨τ, a1, a2, a3⟩ <;> omega
/-- the sum of the digits so far -/
def flP (N : Nat → Nat → Nat) (k : Nat) : Nat := enc (fun j => if j < k then (if N 1 j = 1 then N 3 j else 0) else 0)
theorem flP_0 : flP N 0 = 0 := by simp [flP, enc]
theorem flP_5 : flP N 5 = fullN N := enc_congr fun j hj => if_pos hj
theorem flP_s (hk : k < 5) : flP N (k + 1) = flP N k + (if N 1 k = 1 then N 3 k else 0) * 2 ^ (2 * k) := by
  unfold flP enc
  rcases c5 hk with rfl | rfl | rfl | rfl | rfl <;> simp only [Nat.reduceMul, Nat.reducePow, Nat.reduceLT, Nat.reduceAdd, if_true, if_false] <;> omega
theorem flP_lt {pr : Nat} (hM : okM pr N) : flP N k < 1024 := enc_lt fun i hi => by
  have := (hM.2 i hi).2.1
  show (if i < k then (if N 1 i = 1 then N 3 i else 0) else 0) < 4
  split
  · split <;> omega
  · omega
theorem sh_bd {a j : Nat} (ha : a ≤ 3) (hj : j < 5) : a * 2 ^ (2 * j) < 1024 := by
  rcases c5 hj with rfl | rfl | rfl | rfl | rfl <;> simp only [Nat.reduceMul, Nat.reducePow] <;> omega
end TABLE
end
section
theorem d_M_there_0 : decode b_M_there 0 = .ok (.iload_n 1, 1) := by decide +kernel
theorem d_M_there_1 : decode b_M_there 1 = .ok (.ifCond .lt 21, 3) := by decide +kernel
theorem d_M_there_4 : decode b_M_there 4 = .ok (.iload_n 1, 1) := by decide +kernel
theorem d_M_there_5 : decode b_M_there 5 = .ok (.iconst 5, 1) := by decide +kernel
theorem d_M_there_6 : decode b_M_there 6 = .ok (.if_icmp .ge 16, 3) := by decide +kernel
theorem d_M_there_9 : decode b_M_there 9 = .ok (.aload_n 0, 1) := by decide +kernel
theorem d_M_there_10 : decode b_M_there 10 = .ok (.getfield 7, 3) := by decide +kernel
theorem d_M_there_13 : decode b_M_there 13 = .ok (.iload_n 1, 1) := by decide +kernel
theorem d_M_there_14 : decode b_M_there 14 = .ok (.baload, 1) := by decide +kernel
theorem d_M_there_15 : decode b_M_there 15 = .ok (.ifCond .eq 7, 3) := by decide +kernel
theorem d_M_there_18 : decode b_M_there 18 = .ok (.iconst 1, 1) := by decide +kernel
theorem d_M_there_19 : decode b_M_there 19 = .ok (.goto 4, 3) := by decide +kernel
theorem d_M_there_22 : decode b_M_there 22 = .ok (.iconst 0, 1) := by decide +kernel
theorem d_M_there_23 : decode b_M_there 23 = .ok (.ireturn, 1) := by decide +kernel
theorem held_t {pr j : Nat} {N : Nat → Nat → Nat} (hM : okM pr N) (hj : j < 5) (h : ((N 1 j : Nat) : Int) ≠ 0) : pr.testBit j = true := by
  have := hM.1 j hj
  cases hb : pr.testBit j
  · rw [hb] at this; simp at this; omega
  · rfl
theorem held_f {pr j : Nat} {N : Nat → Nat → Nat} (hM : okM pr N) (hj : j < 5) (h : ((N 1 j : Nat) : Int) = 0) : pr.testBit j = false := by
  have := hM.1 j hj
  cases hb : pr.testBit j
  · rfl
  · rw [hb] at this; simp at this; omega
theorem held_1 {pr j : Nat} {N : Nat → Nat → Nat} (hM : okM pr N) (hj : j < 5) : N 1 j ≤ 1 := by
  rw [hM.1 j hj]; split <;> omega
set_option maxHeartbeats 4000000 in
set_option maxRecDepth 100000 in
/-- there(x) -/
theorem c_M_there (l : Launch) (D : va_G) (h : Nat → Nat) (cs : Nat → ClassId) {cp : Nat} {cap : Int} {fu : Nat} {fd mi : Int} {mb : Nat} {N : Nat → Nat → Nat} {B : Nat → Int} {pr : Nat} (hpr : pr < 32) (hM : okM pr N) (x : Int32) : CI l y_M_there b_M_there 2 .boolean 0 D (tysM cs) (wM h cs) (cp, cap, fu, fd, mi, mb, N, B) [.ref (h 0), .int x] (fun r u' => u' = (cp, cap, fu, fd, mi, mb, N, B) ∧ ((r = nI 1 ∧ hld 5 pr x) ∨ (r = nI 0 ∧ ¬ hld 5 pr x))) := by
  refine CI_of ok_M_there (Nat.le_of_ble_eq_true rfl) (cat_all rfl) ?_
  intro K C hret
  have C : Kok D (tysM cs) K b_M_there 2 R_M 0 := C
  refine j_iload_n C d_M_there_0 (x := x) rfl ?_
  refine j_if_lt C d_M_there_1 (tgt := 22) (by decide) (rfl) (fun c_1 => ?_) (fun c_1 => ?_)
  · refine j_iconst C d_M_there_22 (v := nI 0) (by decide) ?_
    exact hret _ _ _ _ d_M_there_23 rfl ⟨rfl, Or.inr ⟨rfl, fun q => by first | (have z := (hld_n (by omega) (by omega) q).2; rw [held_f hM hj c_15] at z; cases z; done) | (obtain ⟨i, h1, rfl, h3⟩ := q; rw [tI i (by omega)] at *; omega)⟩⟩
  · refine j_iload_n C d_M_there_4 (x := x) rfl ?_
    refine j_iconst C d_M_there_5 (v := nI 5) (by decide) ?_
    refine j_icmp_ge C d_M_there_6 (tgt := 22) (by decide) (rfl) (tI 5 (by decide)) (fun c_6 => ?_) (fun c_6 => ?_)
    · refine j_iconst C d_M_there_22 (v := nI 0) (by decide) ?_
      exact hret _ _ _ _ d_M_there_23 rfl ⟨rfl, Or.inr ⟨rfl, fun q => by first | (have z := (hld_n (by omega) (by omega) q).2; rw [held_f hM hj c_15] at z; cases z; done) | (obtain ⟨i, h1, rfl, h3⟩ := q; rw [tI i (by omega)] at *; omega)⟩⟩
    · obtain ⟨j, hj, rfl⟩ := of_rng (n := 5) c_1 c_6
      refine j_aload_n C d_M_there_9 (a := h 0) rfl ?_
      refine m_get C 2 (v := .ref (h 1)) d_M_there_10 (by decide) fl_M_2 rfl ?_
      refine j_iload_n C d_M_there_13 (x := nI j) rfl ?_
      refine j_zald C 1 0 (f := fun ξ => nI ((N 1) ξ)) (i := j) (v := nI (N 1 j)) d_M_there_14 rfl rfl (by omega) (by decide) rfl ?_
      have q_14 := held_1 hM (show j < 5 by omega)
      refine j_if_eq C d_M_there_15 (tgt := 22) (by decide) (tI (N 1 j) (by omega)) (fun c_15 => ?_) (fun c_15 => ?_)
      · refine j_iconst C d_M_there_22 (v := nI 0) (by decide) ?_
        exact hret _ _ _ _ d_M_there_23 rfl ⟨rfl, Or.inr ⟨rfl, fun q => by first | (have z := (hld_n (by omega) (by omega) q).2; rw [held_f hM hj c_15] at z; cases z; done) | (obtain ⟨i, h1, rfl, h3⟩ := q; rw [tI i (by omega)] at *; omega)⟩⟩
      · refine j_iconst C d_M_there_18 (v := nI 1) (by decide) ?_
        refine j_goto C d_M_there_19 (tgt := 23) (by decide) ?_
        exact hret _ _ _ _ d_M_there_23 rfl ⟨rfl, Or.inl ⟨rfl, j, hj, rfl, held_t hM hj c_15⟩⟩
theorem d_M_cost_0 : decode b_M_cost 0 = .ok (.iload_n 2, 1) := by decide +kernel
theorem d_M_cost_1 : decode b_M_cost 1 = .ok (.aload_n 0, 1) := by decide +kernel
theorem d_M_cost_2 : decode b_M_cost 2 = .ok (.getfield 23, 3) := by decide +kernel
theorem d_M_cost_5 : decode b_M_cost 5 = .ok (.iload_n 1, 1) := by decide +kernel
theorem d_M_cost_6 : decode b_M_cost 6 = .ok (.iaload, 1) := by decide +kernel
theorem d_M_cost_7 : decode b_M_cost 7 = .ok (.isub, 1) := by decide +kernel
theorem d_M_cost_8 : decode b_M_cost 8 = .ok (.istore_n 3, 1) := by decide +kernel
theorem d_M_cost_9 : decode b_M_cost 9 = .ok (.aload_n 0, 1) := by decide +kernel
theorem d_M_cost_10 : decode b_M_cost 10 = .ok (.getfield 20, 3) := by decide +kernel
theorem d_M_cost_13 : decode b_M_cost 13 = .ok (.iload_n 1, 1) := by decide +kernel
theorem d_M_cost_14 : decode b_M_cost 14 = .ok (.iaload, 1) := by decide +kernel
theorem d_M_cost_15 : decode b_M_cost 15 = .ok (.iconst 1, 1) := by decide +kernel
theorem d_M_cost_16 : decode b_M_cost 16 = .ok (.if_icmp .ne 12, 3) := by decide +kernel
theorem d_M_cost_19 : decode b_M_cost 19 = .ok (.aload_n 0, 1) := by decide +kernel
theorem d_M_cost_20 : decode b_M_cost 20 = .ok (.getfield 26, 3) := by decide +kernel
theorem d_M_cost_23 : decode b_M_cost 23 = .ok (.iload_n 1, 1) := by decide +kernel
theorem d_M_cost_24 : decode b_M_cost 24 = .ok (.iaload, 1) := by decide +kernel
theorem d_M_cost_25 : decode b_M_cost 25 = .ok (.iload_n 3, 1) := by decide +kernel
theorem d_M_cost_26 : decode b_M_cost 26 = .ok (.imul, 1) := by decide +kernel
theorem d_M_cost_27 : decode b_M_cost 27 = .ok (.ireturn, 1) := by decide +kernel
theorem d_M_cost_28 : decode b_M_cost 28 = .ok (.iload_n 3, 1) := by decide +kernel
theorem d_M_cost_29 : decode b_M_cost 29 = .ok (.ifCond .gt 5, 3) := by decide +kernel
theorem d_M_cost_32 : decode b_M_cost 32 = .ok (.iconst 0, 1) := by decide +kernel
theorem d_M_cost_33 : decode b_M_cost 33 = .ok (.ireturn, 1) := by decide +kernel
theorem d_M_cost_34 : decode b_M_cost 34 = .ok (.aload_n 0, 1) := by decide +kernel
theorem d_M_cost_35 : decode b_M_cost 35 = .ok (.getfield 20, 3) := by decide +kernel
theorem d_M_cost_38 : decode b_M_cost 38 = .ok (.iload_n 1, 1) := by decide +kernel
theorem d_M_cost_39 : decode b_M_cost 39 = .ok (.iaload, 1) := by decide +kernel
theorem d_M_cost_40 : decode b_M_cost 40 = .ok (.ifCond .ne 14, 3) := by decide +kernel
theorem d_M_cost_43 : decode b_M_cost 43 = .ok (.aload_n 0, 1) := by decide +kernel
theorem d_M_cost_44 : decode b_M_cost 44 = .ok (.getfield 26, 3) := by decide +kernel
theorem d_M_cost_47 : decode b_M_cost 47 = .ok (.iload_n 1, 1) := by decide +kernel
theorem d_M_cost_48 : decode b_M_cost 48 = .ok (.iaload, 1) := by decide +kernel
theorem d_M_cost_49 : decode b_M_cost 49 = .ok (.iload_n 3, 1) := by decide +kernel
theorem d_M_cost_50 : decode b_M_cost 50 = .ok (.imul, 1) := by decide +kernel
theorem d_M_cost_51 : decode b_M_cost 51 = .ok (.goto 28, 3) := by decide +kernel
theorem d_M_cost_54 : decode b_M_cost 54 = .ok (.aload_n 0, 1) := by decide +kernel
theorem d_M_cost_55 : decode b_M_cost 55 = .ok (.getfield 20, 3) := by decide +kernel
theorem d_M_cost_58 : decode b_M_cost 58 = .ok (.iload_n 1, 1) := by decide +kernel
theorem d_M_cost_59 : decode b_M_cost 59 = .ok (.iaload, 1) := by decide +kernel
theorem d_M_cost_60 : decode b_M_cost 60 = .ok (.iconst 2, 1) := by decide +kernel
theorem d_M_cost_61 : decode b_M_cost 61 = .ok (.if_icmp .ne 15, 3) := by decide +kernel
theorem d_M_cost_64 : decode b_M_cost 64 = .ok (.bipush 20, 2) := by decide +kernel
theorem d_M_cost_66 : decode b_M_cost 66 = .ok (.aload_n 0, 1) := by decide +kernel
theorem d_M_cost_67 : decode b_M_cost 67 = .ok (.getfield 26, 3) := by decide +kernel
theorem d_M_cost_70 : decode b_M_cost 70 = .ok (.iload_n 1, 1) := by decide +kernel
theorem d_M_cost_71 : decode b_M_cost 71 = .ok (.iaload, 1) := by decide +kernel
theorem d_M_cost_72 : decode b_M_cost 72 = .ok (.imul, 1) := by decide +kernel
theorem d_M_cost_73 : decode b_M_cost 73 = .ok (.goto 6, 3) := by decide +kernel
theorem d_M_cost_76 : decode b_M_cost 76 = .ok (.sipush 1000, 3) := by decide +kernel
theorem d_M_cost_79 : decode b_M_cost 79 = .ok (.ireturn, 1) := by decide +kernel
set_option maxHeartbeats 4000000 in
set_option maxRecDepth 100000 in
/-- cost(i, t) -/
theorem c_M_cost (l : Launch) (D : va_G) (h : Nat → Nat) (cs : Nat → ClassId) {cp : Nat} {cap : Int} {fu : Nat} {fd mi : Int} {mb : Nat} {N : Nat → Nat → Nat} {B : Nat → Int} {pr : Nat} (hpr : pr < 32) (hM : okM pr N) {i t : Nat} (hi : i < 5) (ht : t ≤ 60) : CI l y_M_cost b_M_cost 4 .int 0 D (tysM cs) (wM h cs) (cp, cap, fu, fd, mi, mb, N, B) [.ref (h 0), .int (nI i), .int (nI t)] (fun r u' => u' = (cp, cap, fu, fd, mi, mb, N, B) ∧ r = iI (cst (N 4 i) (N 5 i) (N 6 i) t)) := by
  refine CI_of ok_M_cost (Nat.le_of_ble_eq_true rfl) (cat_all rfl) ?_
  intro K C hret
  have C : Kok D (tysM cs) K b_M_cost 4 R_M 0 := C
  obtain ⟨-, -, h3, h4, h5, -⟩ := hM.2 i hi
  have hm := mul_bd (w := N 6 i) (x := (t : Int) - (N 5 i : Int)) (a := -30) (b := 60) h5 (by omega) (by omega) (by omega) (by omega)
  refine j_iload_n C d_M_cost_0 (x := nI t) rfl ?_
  refine j_aload_n C d_M_cost_1 (a := h 0) rfl ?_
  refine m_get C 6 (v := .ref (h 5)) d_M_cost_2 (by decide) fl_M_6 rfl ?_
  refine j_iload_n C d_M_cost_5 (x := nI i) rfl ?_
  refine j_iald C 5 4 (f := fun ξ => nI ((N 5) ξ)) (i := i) (v := nI (N 5 i)) d_M_cost_6 rfl rfl (by omega) (by decide) rfl ?_
  refine j_isub C d_M_cost_7 (z := iI ((t : Int) - ((N 5 i) : Int))) (nI_subI _ _) ?_
  refine j_istore_n C d_M_cost_8 (Nat.le_of_ble_eq_true rfl) (Nat.le_of_ble_eq_true rfl) (L' := [.ref (h 0), .int (nI i), .int (nI t), .int (iI ((t : Int) - ((N 5 i) : Int)))]) rfl ?_
  refine j_aload_n C d_M_cost_9 (a := h 0) rfl ?_
  refine m_get C 5 (v := .ref (h 4)) d_M_cost_10 (by decide) fl_M_5 rfl ?_
  refine j_iload_n C d_M_cost_13 (x := nI i) rfl ?_
  refine j_iald C 4 3 (f := fun ξ => nI ((N 4) ξ)) (i := i) (v := nI (N 4 i)) d_M_cost_14 rfl rfl (by omega) (by decide) rfl ?_
  refine j_iconst C d_M_cost_15 (v := nI 1) (by decide) ?_
  refine j_icmp_ne C d_M_cost_16 (tgt := 28) (by decide) (tI (N 4 i) (by omega)) (tI 1 (by decide)) (fun c_16 => ?_) (fun c_16 => ?_)
  · refine j_iload_n C d_M_cost_28 (x := iI ((t : Int) - ((N 5 i) : Int))) rfl ?_
    refine j_if_gt C d_M_cost_29 (tgt := 34) (by decide) (iI_toInt (z := (t : Int) - ((N 5 i) : Int)) (by omega) (by omega)) (fun c_29 => ?_) (fun c_29 => ?_)
    · refine j_aload_n C d_M_cost_34 (a := h 0) rfl ?_
      refine m_get C 5 (v := .ref (h 4)) d_M_cost_35 (by decide) fl_M_5 rfl ?_
      refine j_iload_n C d_M_cost_38 (x := nI i) rfl ?_
      refine j_iald C 4 3 (f := fun ξ => nI ((N 4) ξ)) (i := i) (v := nI (N 4 i)) d_M_cost_39 rfl rfl (by omega) (by decide) rfl ?_
      refine j_if_ne C d_M_cost_40 (tgt := 54) (by decide) (tI (N 4 i) (by omega)) (fun c_40 => ?_) (fun c_40 => ?_)
      · refine j_aload_n C d_M_cost_54 (a := h 0) rfl ?_
        refine m_get C 5 (v := .ref (h 4)) d_M_cost_55 (by decide) fl_M_5 rfl ?_
        refine j_iload_n C d_M_cost_58 (x := nI i) rfl ?_
        refine j_iald C 4 3 (f := fun ξ => nI ((N 4) ξ)) (i := i) (v := nI (N 4 i)) d_M_cost_59 rfl rfl (by omega) (by decide) rfl ?_
        refine j_iconst C d_M_cost_60 (v := nI 2) (by decide) ?_
        refine j_icmp_ne C d_M_cost_61 (tgt := 76) (by decide) (tI (N 4 i) (by omega)) (tI 2 (by decide)) (fun c_61 => ?_) (fun c_61 => ?_)
        · refine j_sipush C d_M_cost_76 (v := nI 1000) (by decide) ?_
          exact hret _ _ _ _ d_M_cost_79 rfl ⟨rfl, by rw [cst, if_neg (by omega), if_neg (by omega)]; first | rw [if_pos (show N 4 i = 0 by omega)] | (rw [if_neg (show ¬ N 4 i = 0 by omega), if_pos (by omega)]; exact (nI_iI _).trans (by simp)) | (rw [if_neg (show ¬ N 4 i = 0 by omega), if_neg (by omega)]; rfl)⟩
        · refine j_bipush C d_M_cost_64 (v := nI 20) (by decide) ?_
          refine j_aload_n C d_M_cost_66 (a := h 0) rfl ?_
          refine m_get C 7 (v := .ref (h 6)) d_M_cost_67 (by decide) fl_M_7 rfl ?_
          refine j_iload_n C d_M_cost_70 (x := nI i) rfl ?_
          refine j_iald C 6 5 (f := fun ξ => nI ((N 6) ξ)) (i := i) (v := nI (N 6 i)) d_M_cost_71 rfl rfl (by omega) (by decide) rfl ?_
          refine j_imul C d_M_cost_72 (z := nI (20 * (N 6 i))) (pk_mul _ _) ?_
          refine j_goto C d_M_cost_73 (tgt := 79) (by decide) ?_
          exact hret _ _ _ _ d_M_cost_79 rfl ⟨rfl, by rw [cst, if_neg (by omega), if_neg (by omega)]; first | rw [if_pos (show N 4 i = 0 by omega)] | (rw [if_neg (show ¬ N 4 i = 0 by omega), if_pos (by omega)]; exact (nI_iI _).trans (by simp)) | (rw [if_neg (show ¬ N 4 i = 0 by omega), if_neg (by omega)]; rfl)⟩
      · refine j_aload_n C d_M_cost_43 (a := h 0) rfl ?_
        refine m_get C 7 (v := .ref (h 6)) d_M_cost_44 (by decide) fl_M_7 rfl ?_
        refine j_iload_n C d_M_cost_47 (x := nI i) rfl ?_
        refine j_iald C 6 5 (f := fun ξ => nI ((N 6) ξ)) (i := i) (v := nI (N 6 i)) d_M_cost_48 rfl rfl (by omega) (by decide) rfl ?_
        refine j_iload_n C d_M_cost_49 (x := iI ((t : Int) - ((N 5 i) : Int))) rfl ?_
        refine j_imul C d_M_cost_50 (z := iI (((N 6 i) : Int) * ((t : Int) - ((N 5 i) : Int)))) (nI_mulI _ _) ?_
        refine j_goto C d_M_cost_51 (tgt := 79) (by decide) ?_
        exact hret _ _ _ _ d_M_cost_79 rfl ⟨rfl, by rw [cst, if_neg (by omega), if_neg (by omega)]; first | rw [if_pos (show N 4 i = 0 by omega)] | (rw [if_neg (show ¬ N 4 i = 0 by omega), if_pos (by omega)]; exact (nI_iI _).trans (by simp)) | (rw [if_neg (show ¬ N 4 i = 0 by omega), if_neg (by omega)]; rfl)⟩
    · refine j_iconst C d_M_cost_32 (v := nI 0) (by decide) ?_
      exact hret _ _ _ _ d_M_cost_33 rfl ⟨rfl, by rw [cst, if_neg (by omega), if_pos (by omega)]; rfl⟩
  · refine j_aload_n C d_M_cost_19 (a := h 0) rfl ?_
    refine m_get C 7 (v := .ref (h 6)) d_M_cost_20 (by decide) fl_M_7 rfl ?_
    refine j_iload_n C d_M_cost_23 (x := nI i) rfl ?_
    refine j_iald C 6 5 (f := fun ξ => nI ((N 6) ξ)) (i := i) (v := nI (N 6 i)) d_M_cost_24 rfl rfl (by omega) (by decide) rfl ?_
    refine j_iload_n C d_M_cost_25 (x := iI ((t : Int) - ((N 5 i) : Int))) rfl ?_
    refine j_imul C d_M_cost_26 (z := iI (((N 6 i) : Int) * ((t : Int) - ((N 5 i) : Int)))) (nI_mulI _ _) ?_
    exact hret _ _ _ _ d_M_cost_27 rfl ⟨rfl, by rw [cst, if_pos (by omega)]⟩
theorem d_M_ready_0 : decode b_M_ready 0 = .ok (.iconst 1, 1) := by decide +kernel
theorem d_M_ready_1 : decode b_M_ready 1 = .ok (.istore_n 3, 1) := by decide +kernel
theorem d_M_ready_2 : decode b_M_ready 2 = .ok (.iconst 0, 1) := by decide +kernel
theorem d_M_ready_3 : decode b_M_ready 3 = .ok (.istore 4, 2) := by decide +kernel
theorem d_M_ready_5 : decode b_M_ready 5 = .ok (.iload 4, 2) := by decide +kernel
theorem d_M_ready_7 : decode b_M_ready 7 = .ok (.iconst 5, 1) := by decide +kernel
theorem d_M_ready_8 : decode b_M_ready 8 = .ok (.if_icmp .ge 54, 3) := by decide +kernel
theorem d_M_ready_11 : decode b_M_ready 11 = .ok (.aload_n 0, 1) := by decide +kernel
theorem d_M_ready_12 : decode b_M_ready 12 = .ok (.getfield 7, 3) := by decide +kernel
theorem d_M_ready_15 : decode b_M_ready 15 = .ok (.iload 4, 2) := by decide +kernel
theorem d_M_ready_17 : decode b_M_ready 17 = .ok (.baload, 1) := by decide +kernel
theorem d_M_ready_18 : decode b_M_ready 18 = .ok (.ifCond .eq 38, 3) := by decide +kernel
theorem d_M_ready_21 : decode b_M_ready 21 = .ok (.aload_n 0, 1) := by decide +kernel
theorem d_M_ready_22 : decode b_M_ready 22 = .ok (.getfield 29, 3) := by decide +kernel
theorem d_M_ready_25 : decode b_M_ready 25 = .ok (.iload_n 2, 1) := by decide +kernel
theorem d_M_ready_26 : decode b_M_ready 26 = .ok (.iaload, 1) := by decide +kernel
theorem d_M_ready_27 : decode b_M_ready 27 = .ok (.iload 4, 2) := by decide +kernel
theorem d_M_ready_29 : decode b_M_ready 29 = .ok (.ishr, 1) := by decide +kernel
theorem d_M_ready_30 : decode b_M_ready 30 = .ok (.iconst 1, 1) := by decide +kernel
theorem d_M_ready_31 : decode b_M_ready 31 = .ok (.iand, 1) := by decide +kernel
theorem d_M_ready_32 : decode b_M_ready 32 = .ok (.iconst 1, 1) := by decide +kernel
theorem d_M_ready_33 : decode b_M_ready 33 = .ok (.if_icmp .ne 23, 3) := by decide +kernel
theorem d_M_ready_36 : decode b_M_ready 36 = .ok (.iload_n 1, 1) := by decide +kernel
theorem d_M_ready_37 : decode b_M_ready 37 = .ok (.iconst 2, 1) := by decide +kernel
theorem d_M_ready_38 : decode b_M_ready 38 = .ok (.iload 4, 2) := by decide +kernel
theorem d_M_ready_40 : decode b_M_ready 40 = .ok (.imul, 1) := by decide +kernel
theorem d_M_ready_41 : decode b_M_ready 41 = .ok (.ishr, 1) := by decide +kernel
theorem d_M_ready_42 : decode b_M_ready 42 = .ok (.iconst 3, 1) := by decide +kernel
theorem d_M_ready_43 : decode b_M_ready 43 = .ok (.iand, 1) := by decide +kernel
theorem d_M_ready_44 : decode b_M_ready 44 = .ok (.aload_n 0, 1) := by decide +kernel
theorem d_M_ready_45 : decode b_M_ready 45 = .ok (.getfield 17, 3) := by decide +kernel
theorem d_M_ready_48 : decode b_M_ready 48 = .ok (.iload 4, 2) := by decide +kernel
theorem d_M_ready_50 : decode b_M_ready 50 = .ok (.iaload, 1) := by decide +kernel
theorem d_M_ready_51 : decode b_M_ready 51 = .ok (.if_icmp .ge 5, 3) := by decide +kernel
theorem d_M_ready_54 : decode b_M_ready 54 = .ok (.iconst 0, 1) := by decide +kernel
theorem d_M_ready_55 : decode b_M_ready 55 = .ok (.istore_n 3, 1) := by decide +kernel
theorem d_M_ready_56 : decode b_M_ready 56 = .ok (.iinc 4 1, 3) := by decide +kernel
theorem d_M_ready_59 : decode b_M_ready 59 = .ok (.goto (-54), 3) := by decide +kernel
theorem d_M_ready_62 : decode b_M_ready 62 = .ok (.iload_n 3, 1) := by decide +kernel
theorem d_M_ready_63 : decode b_M_ready 63 = .ok (.ireturn, 1) := by decide +kernel
def RDP (N : Nat → Nat → Nat) (s j k b : Nat) : Prop := (b = 1 ∧ ∀ i, i < k → N 1 i = 1 → (N 7 j).testBit i = true → N 3 i ≤ dg s i) ∨ (b = 0 ∧ ∃ i, i < k ∧ N 1 i = 1 ∧ (N 7 j).testBit i = true ∧ dg s i < N 3 i)
theorem RDP_keep {N : Nat → Nat → Nat} {s j k b : Nat} (h : RDP N s j k b) (hk : ¬ (N 1 k = 1 ∧ (N 7 j).testBit k = true ∧ dg s k < N 3 k)) : RDP N s j (k + 1) b := by
  rcases h with ⟨h1, h2⟩ | ⟨h1, i, h2, h3⟩
  · refine Or.inl ⟨h1, fun i hi a b => ?_⟩
    rcases lt_succ_cases hi with q | rfl
    · exact h2 i q a b
    · exact Nat.not_lt.mp fun z => hk ⟨a, b, z⟩
  · exact Or.inr ⟨h1, i, by omega, h3⟩
set_option maxHeartbeats 4000000 in
set_option maxRecDepth 100000 in
/-- ready(s, j) -/
theorem c_M_ready (l : Launch) (D : va_G) (h : Nat → Nat) (cs : Nat → ClassId) {cp : Nat} {cap : Int} {fu : Nat} {fd mi : Int} {mb : Nat} {N : Nat → Nat → Nat} {B : Nat → Int} {pr : Nat} (hpr : pr < 32) (hM : okM pr N) {s j : Nat} (hs : s < 1024) (hj : j < 5) : CI l y_M_ready b_M_ready 5 .boolean 0 D (tysM cs) (wM h cs) (cp, cap, fu, fd, mi, mb, N, B) [.ref (h 0), .int (nI s), .int (nI j)] (fun r u' => u' = (cp, cap, fu, fd, mi, mb, N, B) ∧ ((r = nI 1 ∧ ∀ i, i < 5 → N 1 i = 1 → (N 7 j).testBit i = true → N 3 i ≤ dg s i) ∨ (r = nI 0 ∧ ¬ ∀ i, i < 5 → N 1 i = 1 → (N 7 j).testBit i = true → N 3 i ≤ dg s i))) := by
  refine CI_of ok_M_ready (Nat.le_of_ble_eq_true rfl) (cat_all rfl) ?_
  intro K C hret
  have C : Kok D (tysM cs) K b_M_ready 5 R_M 0 := C
  refine j_iconst C d_M_ready_0 (v := nI 1) (by decide) ?_
  refine j_istore_n C d_M_ready_1 (Nat.le_of_ble_eq_true rfl) (Nat.le_of_ble_eq_true rfl) (L' := [.ref (h 0), .int (nI s), .int (nI j), .int (nI 1)]) rfl ?_
  refine j_iconst C d_M_ready_2 (v := nI 0) (by decide) ?_
  refine j_istore C d_M_ready_3 (Nat.le_of_ble_eq_true rfl) (Nat.le_of_ble_eq_true rfl) (L' := [.ref (h 0), .int (nI s), .int (nI j), .int (nI 1), .int (nI 0)]) rfl ?_
  have key : ∀ k, k ≤ 5 → ∀ b, RDP N s j k b → J l D K (wM h cs) (cp, cap, fu, fd, mi, mb, N, B) 5 [.ref (h 0), .int (nI s), .int (nI j), .int (nI b), .int (nI k)] [] := by
    refine up_ind 5 ?_
    intro k hk ih b hF
    have hb1 : b ≤ 1 := by rcases hF with ⟨z, -⟩ | ⟨z, -⟩ <;> omega
    have hdg := dg_lt s k
    have h7 := (hM.2 j hj).2.2.2.2.2
    refine j_iload C d_M_ready_5 (x := nI k) rfl ?_
    refine j_iconst C d_M_ready_7 (v := nI 5) (by decide) ?_
    refine j_icmp_ge C d_M_ready_8 (tgt := 62) (by decide) (tI k (by omega)) (tI 5 (by decide)) (fun c_8 => ?_) (fun c_8 => ?_)
    · obtain rfl : k = 5 := by omega
      refine j_iload_n C d_M_ready_62 (x := nI b) rfl ?_
      rcases hF with ⟨rfl, hF⟩ | ⟨rfl, i, z1, z2, z3, z4⟩
      · exact hret _ _ _ _ d_M_ready_63 rfl ⟨rfl, Or.inl ⟨rfl, hF⟩⟩
      · exact hret _ _ _ _ d_M_ready_63 rfl ⟨rfl, Or.inr ⟨rfl, fun q => by have := q i z1 z2 z3; omega⟩⟩
    · refine j_aload_n C d_M_ready_11 (a := h 0) rfl ?_
      refine m_get C 2 (v := .ref (h 1)) d_M_ready_12 (by decide) fl_M_2 rfl ?_
      refine j_iload C d_M_ready_15 (x := nI k) rfl ?_
      refine j_zald C 1 0 (f := fun ξ => nI ((N 1) ξ)) (i := k) (v := nI (N 1 k)) d_M_ready_17 rfl rfl (by omega) (by decide) rfl ?_
      have q_17 := held_1 hM (show k < 5 by omega)
      refine j_if_eq C d_M_ready_18 (tgt := 56) (by decide) (tI (N 1 k) (by omega)) (fun c_18 => ?_) (fun c_18 => ?_)
      · have hnew := RDP_keep hF (fun z => by omega)
        refine j_iinc C d_M_ready_56 (Nat.le_of_ble_eq_true rfl) (x := nI k) (v := nI (k + 1)) rfl (nI_add _ _) (L' := [.ref (h 0), .int (nI s), .int (nI j), .int (nI b), .int (nI (k + 1))]) rfl ?_
        refine j_goto C d_M_ready_59 (tgt := 5) (by decide) ?_
        exact ih (by omega) _ hnew
      · refine j_aload_n C d_M_ready_21 (a := h 0) rfl ?_
        refine m_get C 8 (v := .ref (h 7)) d_M_ready_22 (by decide) fl_M_8 rfl ?_
        refine j_iload_n C d_M_ready_25 (x := nI j) rfl ?_
        refine j_iald C 7 6 (f := fun ξ => nI ((N 7) ξ)) (i := j) (v := nI (N 7 j)) d_M_ready_26 rfl rfl (by omega) (by decide) rfl ?_
        refine j_iload C d_M_ready_27 (x := nI k) rfl ?_
        refine j_ishr C d_M_ready_29 (z := nI ((N 7 j) / 2 ^ k)) (nI_shr (by omega) (by omega)) ?_
        refine j_iconst C d_M_ready_30 (v := nI 1) (by decide) ?_
        refine j_iand C d_M_ready_31 (z := nI (tb (N 7 j) k)) (nI_bit (by omega)) ?_
        refine j_iconst C d_M_ready_32 (v := nI 1) (by decide) ?_
        refine j_icmp_ne C d_M_ready_33 (tgt := 56) (by decide) (tI _ (tb_lt _ _)) (tI 1 (by decide)) (fun c_33 => ?_) (fun c_33 => ?_)
        · have b_33 : Nat.testBit (N 7 j) k = false := tb_f1 c_33
          have hnew := RDP_keep hF (fun z => by rw [b_33] at z; exact absurd z.2.1 (by decide))
          refine j_iinc C d_M_ready_56 (Nat.le_of_ble_eq_true rfl) (x := nI k) (v := nI (k + 1)) rfl (nI_add _ _) (L' := [.ref (h 0), .int (nI s), .int (nI j), .int (nI b), .int (nI (k + 1))]) rfl ?_
          refine j_goto C d_M_ready_59 (tgt := 5) (by decide) ?_
          exact ih (by omega) _ hnew
        · have b_33 : Nat.testBit (N 7 j) k = true := tb_t1 c_33
          refine j_iload_n C d_M_ready_36 (x := nI s) rfl ?_
          refine j_iconst C d_M_ready_37 (v := nI 2) (by decide) ?_
          refine j_iload C d_M_ready_38 (x := nI k) rfl ?_
          refine j_imul C d_M_ready_40 (z := nI (2 * k)) (pk_mul _ _) ?_
          refine j_ishr C d_M_ready_41 (z := nI (s / 2 ^ (2 * k))) (nI_shr (by omega) (by omega)) ?_
          refine j_iconst C d_M_ready_42 (v := nI 3) (by decide) ?_
          refine j_iand C d_M_ready_43 (z := nI (dg s k)) (nI_dg (by omega)) ?_
          refine j_aload_n C d_M_ready_44 (a := h 0) rfl ?_
          refine m_get C 4 (v := .ref (h 3)) d_M_ready_45 (by decide) fl_M_4 rfl ?_
          refine j_iload C d_M_ready_48 (x := nI k) rfl ?_
          refine j_iald C 3 2 (f := fun ξ => nI ((N 3) ξ)) (i := k) (v := nI (N 3 k)) d_M_ready_50 rfl rfl (by omega) (by decide) rfl ?_
          have q_50 := (hM.2 k (by omega)).2.1
          refine j_icmp_ge C d_M_ready_51 (tgt := 56) (by decide) (tI (dg s k) (by omega)) (tI (N 3 k) (by omega)) (fun c_51 => ?_) (fun c_51 => ?_)
          · have hnew := RDP_keep hF (fun z => by omega)
            refine j_iinc C d_M_ready_56 (Nat.le_of_ble_eq_true rfl) (x := nI k) (v := nI (k + 1)) rfl (nI_add _ _) (L' := [.ref (h 0), .int (nI s), .int (nI j), .int (nI b), .int (nI (k + 1))]) rfl ?_
            refine j_goto C d_M_ready_59 (tgt := 5) (by decide) ?_
            exact ih (by omega) _ hnew
          · have hnew : RDP N s j (k + 1) 0 := Or.inr ⟨rfl, k, by omega, by omega, b_33, by omega⟩
            refine j_iconst C d_M_ready_54 (v := nI 0) (by decide) ?_
            refine j_istore_n C d_M_ready_55 (Nat.le_of_ble_eq_true rfl) (Nat.le_of_ble_eq_true rfl) (L' := [.ref (h 0), .int (nI s), .int (nI j), .int (nI 0), .int (nI k)]) rfl ?_
            refine j_iinc C d_M_ready_56 (Nat.le_of_ble_eq_true rfl) (x := nI k) (v := nI (k + 1)) rfl (nI_add _ _) (L' := [.ref (h 0), .int (nI s), .int (nI j), .int (nI 0), .int (nI (k + 1))]) rfl ?_
            refine j_goto C d_M_ready_59 (tgt := 5) (by decide) ?_
            exact ih (by omega) _ hnew
  exact key 0 (by omega) 1 (Or.inl ⟨rfl, fun i hi => by omega⟩)
theorem d_M_oneUnit_0 : decode b_M_oneUnit 0 = .ok (.iconst 0, 1) := by decide +kernel
theorem d_M_oneUnit_1 : decode b_M_oneUnit 1 = .ok (.istore_n 3, 1) := by decide +kernel
theorem d_M_oneUnit_2 : decode b_M_oneUnit 2 = .ok (.iload_n 3, 1) := by decide +kernel
theorem d_M_oneUnit_3 : decode b_M_oneUnit 3 = .ok (.iconst 5, 1) := by decide +kernel
theorem d_M_oneUnit_4 : decode b_M_oneUnit 4 = .ok (.if_icmp .ge 170, 3) := by decide +kernel
theorem d_M_oneUnit_7 : decode b_M_oneUnit 7 = .ok (.iload_n 1, 1) := by decide +kernel
theorem d_M_oneUnit_8 : decode b_M_oneUnit 8 = .ok (.iconst 2, 1) := by decide +kernel
theorem d_M_oneUnit_9 : decode b_M_oneUnit 9 = .ok (.iload_n 3, 1) := by decide +kernel
theorem d_M_oneUnit_10 : decode b_M_oneUnit 10 = .ok (.imul, 1) := by decide +kernel
theorem d_M_oneUnit_11 : decode b_M_oneUnit 11 = .ok (.ishr, 1) := by decide +kernel
theorem d_M_oneUnit_12 : decode b_M_oneUnit 12 = .ok (.iconst 3, 1) := by decide +kernel
theorem d_M_oneUnit_13 : decode b_M_oneUnit 13 = .ok (.iand, 1) := by decide +kernel
theorem d_M_oneUnit_14 : decode b_M_oneUnit 14 = .ok (.istore 4, 2) := by decide +kernel
theorem d_M_oneUnit_16 : decode b_M_oneUnit 16 = .ok (.aload_n 0, 1) := by decide +kernel
theorem d_M_oneUnit_17 : decode b_M_oneUnit 17 = .ok (.getfield 7, 3) := by decide +kernel
theorem d_M_oneUnit_20 : decode b_M_oneUnit 20 = .ok (.iload_n 3, 1) := by decide +kernel
theorem d_M_oneUnit_21 : decode b_M_oneUnit 21 = .ok (.baload, 1) := by decide +kernel
theorem d_M_oneUnit_22 : decode b_M_oneUnit 22 = .ok (.ifCond .eq 146, 3) := by decide +kernel
theorem d_M_oneUnit_25 : decode b_M_oneUnit 25 = .ok (.iload 4, 2) := by decide +kernel
theorem d_M_oneUnit_27 : decode b_M_oneUnit 27 = .ok (.aload_n 0, 1) := by decide +kernel
theorem d_M_oneUnit_28 : decode b_M_oneUnit 28 = .ok (.getfield 17, 3) := by decide +kernel
theorem d_M_oneUnit_31 : decode b_M_oneUnit 31 = .ok (.iload_n 3, 1) := by decide +kernel
theorem d_M_oneUnit_32 : decode b_M_oneUnit 32 = .ok (.iaload, 1) := by decide +kernel
theorem d_M_oneUnit_33 : decode b_M_oneUnit 33 = .ok (.if_icmp .ge 135, 3) := by decide +kernel
theorem d_M_oneUnit_36 : decode b_M_oneUnit 36 = .ok (.aload_n 0, 1) := by decide +kernel
theorem d_M_oneUnit_37 : decode b_M_oneUnit 37 = .ok (.getfield 13, 3) := by decide +kernel
theorem d_M_oneUnit_40 : decode b_M_oneUnit 40 = .ok (.iload_n 3, 1) := by decide +kernel
theorem d_M_oneUnit_41 : decode b_M_oneUnit 41 = .ok (.iaload, 1) := by decide +kernel
theorem d_M_oneUnit_42 : decode b_M_oneUnit 42 = .ok (.iload_n 2, 1) := by decide +kernel
theorem d_M_oneUnit_43 : decode b_M_oneUnit 43 = .ok (.if_icmp .gt 125, 3) := by decide +kernel
theorem d_M_oneUnit_46 : decode b_M_oneUnit 46 = .ok (.aload_n 0, 1) := by decide +kernel
theorem d_M_oneUnit_47 : decode b_M_oneUnit 47 = .ok (.iload_n 1, 1) := by decide +kernel
theorem d_M_oneUnit_48 : decode b_M_oneUnit 48 = .ok (.iload_n 3, 1) := by decide +kernel
theorem d_M_oneUnit_49 : decode b_M_oneUnit 49 = .ok (.invokevirtual 55, 3) := by decide +kernel
theorem d_M_oneUnit_52 : decode b_M_oneUnit 52 = .ok (.ifCond .eq 116, 3) := by decide +kernel
theorem d_M_oneUnit_55 : decode b_M_oneUnit 55 = .ok (.iload_n 3, 1) := by decide +kernel
theorem d_M_oneUnit_56 : decode b_M_oneUnit 56 = .ok (.aload_n 0, 1) := by decide +kernel
theorem d_M_oneUnit_57 : decode b_M_oneUnit 57 = .ok (.getfield 35, 3) := by decide +kernel
theorem d_M_oneUnit_60 : decode b_M_oneUnit 60 = .ok (.if_icmp .ne 11, 3) := by decide +kernel
theorem d_M_oneUnit_63 : decode b_M_oneUnit 63 = .ok (.iload_n 2, 1) := by decide +kernel
theorem d_M_oneUnit_64 : decode b_M_oneUnit 64 = .ok (.aload_n 0, 1) := by decide +kernel
theorem d_M_oneUnit_65 : decode b_M_oneUnit 65 = .ok (.getfield 59, 3) := by decide +kernel
theorem d_M_oneUnit_68 : decode b_M_oneUnit 68 = .ok (.if_icmp .ge 100, 3) := by decide +kernel
theorem d_M_oneUnit_71 : decode b_M_oneUnit 71 = .ok (.iload 4, 2) := by decide +kernel
theorem d_M_oneUnit_73 : decode b_M_oneUnit 73 = .ok (.iconst 1, 1) := by decide +kernel
theorem d_M_oneUnit_74 : decode b_M_oneUnit 74 = .ok (.iadd, 1) := by decide +kernel
theorem d_M_oneUnit_75 : decode b_M_oneUnit 75 = .ok (.aload_n 0, 1) := by decide +kernel
theorem d_M_oneUnit_76 : decode b_M_oneUnit 76 = .ok (.getfield 17, 3) := by decide +kernel
theorem d_M_oneUnit_79 : decode b_M_oneUnit 79 = .ok (.iload_n 3, 1) := by decide +kernel
theorem d_M_oneUnit_80 : decode b_M_oneUnit 80 = .ok (.iaload, 1) := by decide +kernel
theorem d_M_oneUnit_81 : decode b_M_oneUnit 81 = .ok (.if_icmp .ne 14, 3) := by decide +kernel
theorem d_M_oneUnit_84 : decode b_M_oneUnit 84 = .ok (.aload_n 0, 1) := by decide +kernel
theorem d_M_oneUnit_85 : decode b_M_oneUnit 85 = .ok (.iload_n 3, 1) := by decide +kernel
theorem d_M_oneUnit_86 : decode b_M_oneUnit 86 = .ok (.iload_n 2, 1) := by decide +kernel
theorem d_M_oneUnit_87 : decode b_M_oneUnit 87 = .ok (.iconst 1, 1) := by decide +kernel
theorem d_M_oneUnit_88 : decode b_M_oneUnit 88 = .ok (.iadd, 1) := by decide +kernel
theorem d_M_oneUnit_89 : decode b_M_oneUnit 89 = .ok (.invokevirtual 62, 3) := by decide +kernel
theorem d_M_oneUnit_92 : decode b_M_oneUnit 92 = .ok (.goto 6, 3) := by decide +kernel
theorem d_M_oneUnit_95 : decode b_M_oneUnit 95 = .ok (.sipush (-2000), 3) := by decide +kernel
theorem d_M_oneUnit_98 : decode b_M_oneUnit 98 = .ok (.istore 5, 2) := by decide +kernel
theorem d_M_oneUnit_100 : decode b_M_oneUnit 100 = .ok (.iload 5, 2) := by decide +kernel
theorem d_M_oneUnit_102 : decode b_M_oneUnit 102 = .ok (.aload_n 0, 1) := by decide +kernel
theorem d_M_oneUnit_103 : decode b_M_oneUnit 103 = .ok (.getfield 32, 3) := by decide +kernel
theorem d_M_oneUnit_106 : decode b_M_oneUnit 106 = .ok (.iload_n 1, 1) := by decide +kernel
theorem d_M_oneUnit_107 : decode b_M_oneUnit 107 = .ok (.iaload, 1) := by decide +kernel
theorem d_M_oneUnit_108 : decode b_M_oneUnit 108 = .ok (.if_icmp .le 8, 3) := by decide +kernel
theorem d_M_oneUnit_111 : decode b_M_oneUnit 111 = .ok (.iload 5, 2) := by decide +kernel
theorem d_M_oneUnit_113 : decode b_M_oneUnit 113 = .ok (.goto 9, 3) := by decide +kernel
theorem d_M_oneUnit_116 : decode b_M_oneUnit 116 = .ok (.aload_n 0, 1) := by decide +kernel
theorem d_M_oneUnit_117 : decode b_M_oneUnit 117 = .ok (.getfield 32, 3) := by decide +kernel
theorem d_M_oneUnit_120 : decode b_M_oneUnit 120 = .ok (.iload_n 1, 1) := by decide +kernel
theorem d_M_oneUnit_121 : decode b_M_oneUnit 121 = .ok (.iaload, 1) := by decide +kernel
theorem d_M_oneUnit_122 : decode b_M_oneUnit 122 = .ok (.istore 5, 2) := by decide +kernel
theorem d_M_oneUnit_124 : decode b_M_oneUnit 124 = .ok (.iload_n 1, 1) := by decide +kernel
theorem d_M_oneUnit_125 : decode b_M_oneUnit 125 = .ok (.iconst 1, 1) := by decide +kernel
theorem d_M_oneUnit_126 : decode b_M_oneUnit 126 = .ok (.iconst 2, 1) := by decide +kernel
theorem d_M_oneUnit_127 : decode b_M_oneUnit 127 = .ok (.iload_n 3, 1) := by decide +kernel
theorem d_M_oneUnit_128 : decode b_M_oneUnit 128 = .ok (.imul, 1) := by decide +kernel
theorem d_M_oneUnit_129 : decode b_M_oneUnit 129 = .ok (.ishl, 1) := by decide +kernel
theorem d_M_oneUnit_130 : decode b_M_oneUnit 130 = .ok (.iadd, 1) := by decide +kernel
theorem d_M_oneUnit_131 : decode b_M_oneUnit 131 = .ok (.sipush 1023, 3) := by decide +kernel
theorem d_M_oneUnit_134 : decode b_M_oneUnit 134 = .ok (.iand, 1) := by decide +kernel
theorem d_M_oneUnit_135 : decode b_M_oneUnit 135 = .ok (.istore 6, 2) := by decide +kernel
theorem d_M_oneUnit_137 : decode b_M_oneUnit 137 = .ok (.aload_n 0, 1) := by decide +kernel
theorem d_M_oneUnit_138 : decode b_M_oneUnit 138 = .ok (.getfield 32, 3) := by decide +kernel
theorem d_M_oneUnit_141 : decode b_M_oneUnit 141 = .ok (.iload 6, 2) := by decide +kernel
theorem d_M_oneUnit_143 : decode b_M_oneUnit 143 = .ok (.iload 5, 2) := by decide +kernel
theorem d_M_oneUnit_145 : decode b_M_oneUnit 145 = .ok (.aload_n 0, 1) := by decide +kernel
theorem d_M_oneUnit_146 : decode b_M_oneUnit 146 = .ok (.getfield 32, 3) := by decide +kernel
theorem d_M_oneUnit_149 : decode b_M_oneUnit 149 = .ok (.iload 6, 2) := by decide +kernel
theorem d_M_oneUnit_151 : decode b_M_oneUnit 151 = .ok (.iaload, 1) := by decide +kernel
theorem d_M_oneUnit_152 : decode b_M_oneUnit 152 = .ok (.if_icmp .ge 8, 3) := by decide +kernel
theorem d_M_oneUnit_155 : decode b_M_oneUnit 155 = .ok (.iload 5, 2) := by decide +kernel
theorem d_M_oneUnit_157 : decode b_M_oneUnit 157 = .ok (.goto 10, 3) := by decide +kernel
theorem d_M_oneUnit_160 : decode b_M_oneUnit 160 = .ok (.aload_n 0, 1) := by decide +kernel
theorem d_M_oneUnit_161 : decode b_M_oneUnit 161 = .ok (.getfield 32, 3) := by decide +kernel
theorem d_M_oneUnit_164 : decode b_M_oneUnit 164 = .ok (.iload 6, 2) := by decide +kernel
theorem d_M_oneUnit_166 : decode b_M_oneUnit 166 = .ok (.iaload, 1) := by decide +kernel
theorem d_M_oneUnit_167 : decode b_M_oneUnit 167 = .ok (.iastore, 1) := by decide +kernel
theorem d_M_oneUnit_168 : decode b_M_oneUnit 168 = .ok (.iinc 3 1, 3) := by decide +kernel
theorem d_M_oneUnit_171 : decode b_M_oneUnit 171 = .ok (.goto (-169), 3) := by decide +kernel
theorem d_M_oneUnit_174 : decode b_M_oneUnit 174 = .ok (.return_, 1) := by decide +kernel
set_option maxHeartbeats 4000000 in
set_option maxRecDepth 100000 in
/-- oneUnit(s, t) -/
theorem c_M_oneUnit (l : Launch) (D : va_G) (h : Nat → Nat) (cs : Nat → ClassId) {cp : Nat} {cap : Int} {fu : Nat} {fd mi : Int} {mb : Nat} {N : Nat → Nat → Nat} {B : Nat → Int} {pr : Nat} (hpr : pr < 32) (hM : okM pr N) {s t : Nat} (hs : s < 1024) (ht : t < 34) (hmi : -1 ≤ mi ∧ mi < 5) (hmb : mb ≤ 60) (hB : inR B) (hB9 : B s < 9999) : CV l y_M_oneUnit b_M_oneUnit 7 1 D (tysM cs) (wM h cs) (cp, cap, fu, fd, mi, mb, N, B) [.ref (h 0), .int (nI s), .int (nI t)] (fun u' => ∃ B', u' = (cp, cap, fu, fd, mi, mb, N, B') ∧ OUP N mi mb s t 5 B B') := by
  refine CV_of ok_M_oneUnit (Nat.le_of_ble_eq_true rfl) (cat_all rfl) ?_
  intro K C hret
  have C : Kok D (tysM cs) K b_M_oneUnit 7 R_M 1 := C
  refine j_iconst C d_M_oneUnit_0 (v := nI 0) (by decide) ?_
  refine j_istore_n C d_M_oneUnit_1 (Nat.le_of_ble_eq_true rfl) (Nat.le_of_ble_eq_true rfl) (L' := [.ref (h 0), .int (nI s), .int (nI t), .int (nI 0)]) rfl ?_
  have key : ∀ j, j ≤ 5 → ∀ B1, OUP N mi mb s t j B B1 → J l D K (wM h cs) (cp, cap, fu, fd, mi, mb, N, B1) 2 [.ref (h 0), .int (nI s), .int (nI t), .int (nI j)] [] := by
    refine up_ind 5 ?_
    intro j hj ih B1 hF
    have hdg := dg_lt s j
    have hB1 := hF.1
    have hbs := hB1 s hs
    have hskip : j < 5 → ¬ UU N mi mb s t j → J l D K (wM h cs) (cp, cap, fu, fd, mi, mb, N, B1) 168 [.ref (h 0), .int (nI s), .int (nI t), .int (nI j), .int (nI (dg s j))] [] := by
      intro hj5 hnu
      refine j_iinc C d_M_oneUnit_168 (Nat.le_of_ble_eq_true rfl) (x := nI j) (v := nI (j + 1)) rfl (nI_add _ _) (L' := [.ref (h 0), .int (nI s), .int (nI t), .int (nI (j + 1)), .int (nI (dg s j))]) rfl ?_
      refine j_goto C d_M_oneUnit_171 (tgt := 2) (by decide) ?_
      refine j_take 4 rfl ?_
      exact ih (by omega) _ (OUP_skip hF hnu)
    have tail : j < 5 → UU N mi mb s t j → ∀ cc : Int, -2000 ≤ cc → cc ≤ 1000 → (∀ c, -2000 ≤ c → (cc ≤ c ↔ FF N c s t j)) → J l D K (wM h cs) (cp, cap, fu, fd, mi, mb, N, B1) 98 [.ref (h 0), .int (nI s), .int (nI t), .int (nI j), .int (nI (dg s j))] [.int (iI cc)] := by
      intro hj5 hu cc hc1 hc2 hcc
      have h33 := (hM.2 j hj5).2.1
      have hul := hu.2.1
      obtain ⟨hto, -, -⟩ := dg_add hs hj5 (by omega)
      have hbt := hB1 _ hto
      refine j_istore C d_M_oneUnit_98 (Nat.le_of_ble_eq_true rfl) (Nat.le_of_ble_eq_true rfl) (L' := [.ref (h 0), .int (nI s), .int (nI t), .int (nI j), .int (nI (dg s j)), .int (iI cc)]) rfl ?_
      refine j_iload C d_M_oneUnit_100 (x := iI cc) rfl ?_
      refine j_aload_n C d_M_oneUnit_102 (a := h 0) rfl ?_
      refine m_get C 9 (v := .ref (h 8)) d_M_oneUnit_103 (by decide) fl_M_9 rfl ?_
      refine j_iload_n C d_M_oneUnit_106 (x := nI s) rfl ?_
      refine j_iald C 8 7 (f := fun ξ => iI (B1 ξ)) (i := s) (v := iI (B1 s)) d_M_oneUnit_107 rfl rfl (by omega) (by decide) rfl ?_
      refine j_icmp_le C d_M_oneUnit_108 (tgt := 116) (by decide) (iI_toInt (z := cc) (by omega) (by omega)) (iI_toInt (z := B1 s) (by omega) (by omega)) (fun c_108 => ?_) (fun c_108 => ?_)
      · refine j_aload_n C d_M_oneUnit_116 (a := h 0) rfl ?_
        refine m_get C 9 (v := .ref (h 8)) d_M_oneUnit_117 (by decide) fl_M_9 rfl ?_
        refine j_iload_n C d_M_oneUnit_120 (x := nI s) rfl ?_
        refine j_iald C 8 7 (f := fun ξ => iI (B1 ξ)) (i := s) (v := iI (B1 s)) d_M_oneUnit_121 rfl rfl (by omega) (by decide) rfl ?_
        refine j_istore C d_M_oneUnit_122 (Nat.le_of_ble_eq_true rfl) (Nat.le_of_ble_eq_true rfl) (L' := [.ref (h 0), .int (nI s), .int (nI t), .int (nI j), .int (nI (dg s j)), .int (iI (B1 s))]) rfl ?_
        refine j_iload_n C d_M_oneUnit_124 (x := nI s) rfl ?_
        refine j_iconst C d_M_oneUnit_125 (v := nI 1) (by decide) ?_
        refine j_iconst C d_M_oneUnit_126 (v := nI 2) (by decide) ?_
        refine j_iload_n C d_M_oneUnit_127 (x := nI j) rfl ?_
        refine j_imul C d_M_oneUnit_128 (z := nI (2 * j)) (pk_mul _ _) ?_
        refine j_ishl C d_M_oneUnit_129 (z := nI (2 ^ (2 * j))) (nI_shl1 (by omega)) ?_
        refine j_iadd C d_M_oneUnit_130 (z := nI (s + (2 ^ (2 * j)))) (nI_add _ _) ?_
        refine j_sipush C d_M_oneUnit_131 (v := nI 1023) (by decide) ?_
        refine j_iand C d_M_oneUnit_134 (z := nI ((s + (2 ^ (2 * j))) % 1024)) (nI_and1023 (by omega)) ?_
        rw [Nat.mod_eq_of_lt hto]
        refine j_istore C d_M_oneUnit_135 (Nat.le_of_ble_eq_true rfl) (Nat.le_of_ble_eq_true rfl) (L' := [.ref (h 0), .int (nI s), .int (nI t), .int (nI j), .int (nI (dg s j)), .int (iI (B1 s)), .int (nI (s + 2 ^ (2 * j)))]) rfl ?_
        refine j_aload_n C d_M_oneUnit_137 (a := h 0) rfl ?_
        refine m_get C 9 (v := .ref (h 8)) d_M_oneUnit_138 (by decide) fl_M_9 rfl ?_
        refine j_iload C d_M_oneUnit_141 (x := nI (s + 2 ^ (2 * j))) rfl ?_
        refine j_iload C d_M_oneUnit_143 (x := iI (B1 s)) rfl ?_
        refine j_aload_n C d_M_oneUnit_145 (a := h 0) rfl ?_
        refine m_get C 9 (v := .ref (h 8)) d_M_oneUnit_146 (by decide) fl_M_9 rfl ?_
        refine j_iload C d_M_oneUnit_149 (x := nI (s + 2 ^ (2 * j))) rfl ?_
        refine j_iald C 8 7 (f := fun ξ => iI (B1 ξ)) (i := s + 2 ^ (2 * j)) (v := iI (B1 (s + 2 ^ (2 * j)))) d_M_oneUnit_151 rfl rfl (by omega) (by decide) rfl ?_
        refine j_icmp_ge C d_M_oneUnit_152 (tgt := 160) (by decide) (iI_toInt (z := B1 s) (by omega) (by omega)) (iI_toInt (z := B1 (s + 2 ^ (2 * j))) (by omega) (by omega)) (fun c_152 => ?_) (fun c_152 => ?_)
        · refine j_aload_n C d_M_oneUnit_160 (a := h 0) rfl ?_
          refine m_get C 9 (v := .ref (h 8)) d_M_oneUnit_161 (by decide) fl_M_9 rfl ?_
          refine j_iload C d_M_oneUnit_164 (x := nI (s + 2 ^ (2 * j))) rfl ?_
          refine j_iald C 8 7 (f := fun ξ => iI (B1 ξ)) (i := s + 2 ^ (2 * j)) (v := iI (B1 (s + 2 ^ (2 * j)))) d_M_oneUnit_166 rfl rfl (by omega) (by decide) rfl ?_
          refine j_iast C 8 7 iI (g := B1) (i := s + 2 ^ (2 * j)) (v := B1 (s + 2 ^ (2 * j))) (u' := (cp, cap, fu, fd, mi, mb, N, va_up B1 (s + 2 ^ (2 * j)) (B1 (s + 2 ^ (2 * j))))) d_M_oneUnit_167 rfl rfl (by omega) (by decide) rfl ?_
          refine j_iinc C d_M_oneUnit_168 (Nat.le_of_ble_eq_true rfl) (x := nI j) (v := nI (j + 1)) rfl (nI_add _ _) (L' := [.ref (h 0), .int (nI s), .int (nI t), .int (nI (j + 1)), .int (nI (dg s j)), .int (iI (B1 s)), .int (nI (s + 2 ^ (2 * j)))]) rfl ?_
          refine j_goto C d_M_oneUnit_171 (tgt := 2) (by decide) ?_
          refine j_take 4 rfl ?_
          exact ih (by omega) _ (OUP_set hF hu hs hto hcc (fun c _ _ => by omega) (by omega))
        · refine j_iload C d_M_oneUnit_155 (x := iI (B1 s)) rfl ?_
          refine j_goto C d_M_oneUnit_157 (tgt := 167) (by decide) ?_
          refine j_iast C 8 7 iI (g := B1) (i := s + 2 ^ (2 * j)) (v := B1 s) (u' := (cp, cap, fu, fd, mi, mb, N, va_up B1 (s + 2 ^ (2 * j)) (B1 s))) d_M_oneUnit_167 rfl rfl (by omega) (by decide) rfl ?_
          refine j_iinc C d_M_oneUnit_168 (Nat.le_of_ble_eq_true rfl) (x := nI j) (v := nI (j + 1)) rfl (nI_add _ _) (L' := [.ref (h 0), .int (nI s), .int (nI t), .int (nI (j + 1)), .int (nI (dg s j)), .int (iI (B1 s)), .int (nI (s + 2 ^ (2 * j)))]) rfl ?_
          refine j_goto C d_M_oneUnit_171 (tgt := 2) (by decide) ?_
          refine j_take 4 rfl ?_
          exact ih (by omega) _ (OUP_set hF hu hs hto hcc (fun c _ _ => by omega) (by omega))
      · refine j_iload C d_M_oneUnit_111 (x := iI cc) rfl ?_
        refine j_goto C d_M_oneUnit_113 (tgt := 122) (by decide) ?_
        refine j_istore C d_M_oneUnit_122 (Nat.le_of_ble_eq_true rfl) (Nat.le_of_ble_eq_true rfl) (L' := [.ref (h 0), .int (nI s), .int (nI t), .int (nI j), .int (nI (dg s j)), .int (iI cc)]) rfl ?_
        refine j_iload_n C d_M_oneUnit_124 (x := nI s) rfl ?_
        refine j_iconst C d_M_oneUnit_125 (v := nI 1) (by decide) ?_
        refine j_iconst C d_M_oneUnit_126 (v := nI 2) (by decide) ?_
        refine j_iload_n C d_M_oneUnit_127 (x := nI j) rfl ?_
        refine j_imul C d_M_oneUnit_128 (z := nI (2 * j)) (pk_mul _ _) ?_
        refine j_ishl C d_M_oneUnit_129 (z := nI (2 ^ (2 * j))) (nI_shl1 (by omega)) ?_
        refine j_iadd C d_M_oneUnit_130 (z := nI (s + (2 ^ (2 * j)))) (nI_add _ _) ?_
        refine j_sipush C d_M_oneUnit_131 (v := nI 1023) (by decide) ?_
        refine j_iand C d_M_oneUnit_134 (z := nI ((s + (2 ^ (2 * j))) % 1024)) (nI_and1023 (by omega)) ?_
        rw [Nat.mod_eq_of_lt hto]
        refine j_istore C d_M_oneUnit_135 (Nat.le_of_ble_eq_true rfl) (Nat.le_of_ble_eq_true rfl) (L' := [.ref (h 0), .int (nI s), .int (nI t), .int (nI j), .int (nI (dg s j)), .int (iI cc), .int (nI (s + 2 ^ (2 * j)))]) rfl ?_
        refine j_aload_n C d_M_oneUnit_137 (a := h 0) rfl ?_
        refine m_get C 9 (v := .ref (h 8)) d_M_oneUnit_138 (by decide) fl_M_9 rfl ?_
        refine j_iload C d_M_oneUnit_141 (x := nI (s + 2 ^ (2 * j))) rfl ?_
        refine j_iload C d_M_oneUnit_143 (x := iI cc) rfl ?_
        refine j_aload_n C d_M_oneUnit_145 (a := h 0) rfl ?_
        refine m_get C 9 (v := .ref (h 8)) d_M_oneUnit_146 (by decide) fl_M_9 rfl ?_
        refine j_iload C d_M_oneUnit_149 (x := nI (s + 2 ^ (2 * j))) rfl ?_
        refine j_iald C 8 7 (f := fun ξ => iI (B1 ξ)) (i := s + 2 ^ (2 * j)) (v := iI (B1 (s + 2 ^ (2 * j)))) d_M_oneUnit_151 rfl rfl (by omega) (by decide) rfl ?_
        refine j_icmp_ge C d_M_oneUnit_152 (tgt := 160) (by decide) (iI_toInt (z := cc) (by omega) (by omega)) (iI_toInt (z := B1 (s + 2 ^ (2 * j))) (by omega) (by omega)) (fun c_152 => ?_) (fun c_152 => ?_)
        · refine j_aload_n C d_M_oneUnit_160 (a := h 0) rfl ?_
          refine m_get C 9 (v := .ref (h 8)) d_M_oneUnit_161 (by decide) fl_M_9 rfl ?_
          refine j_iload C d_M_oneUnit_164 (x := nI (s + 2 ^ (2 * j))) rfl ?_
          refine j_iald C 8 7 (f := fun ξ => iI (B1 ξ)) (i := s + 2 ^ (2 * j)) (v := iI (B1 (s + 2 ^ (2 * j)))) d_M_oneUnit_166 rfl rfl (by omega) (by decide) rfl ?_
          refine j_iast C 8 7 iI (g := B1) (i := s + 2 ^ (2 * j)) (v := B1 (s + 2 ^ (2 * j))) (u' := (cp, cap, fu, fd, mi, mb, N, va_up B1 (s + 2 ^ (2 * j)) (B1 (s + 2 ^ (2 * j))))) d_M_oneUnit_167 rfl rfl (by omega) (by decide) rfl ?_
          refine j_iinc C d_M_oneUnit_168 (Nat.le_of_ble_eq_true rfl) (x := nI j) (v := nI (j + 1)) rfl (nI_add _ _) (L' := [.ref (h 0), .int (nI s), .int (nI t), .int (nI (j + 1)), .int (nI (dg s j)), .int (iI cc), .int (nI (s + 2 ^ (2 * j)))]) rfl ?_
          refine j_goto C d_M_oneUnit_171 (tgt := 2) (by decide) ?_
          refine j_take 4 rfl ?_
          exact ih (by omega) _ (OUP_set hF hu hs hto hcc (fun c _ _ => by omega) (by omega))
        · refine j_iload C d_M_oneUnit_155 (x := iI cc) rfl ?_
          refine j_goto C d_M_oneUnit_157 (tgt := 167) (by decide) ?_
          refine j_iast C 8 7 iI (g := B1) (i := s + 2 ^ (2 * j)) (v := cc) (u' := (cp, cap, fu, fd, mi, mb, N, va_up B1 (s + 2 ^ (2 * j)) cc)) d_M_oneUnit_167 rfl rfl (by omega) (by decide) rfl ?_
          refine j_iinc C d_M_oneUnit_168 (Nat.le_of_ble_eq_true rfl) (x := nI j) (v := nI (j + 1)) rfl (nI_add _ _) (L' := [.ref (h 0), .int (nI s), .int (nI t), .int (nI (j + 1)), .int (nI (dg s j)), .int (iI cc), .int (nI (s + 2 ^ (2 * j)))]) rfl ?_
          refine j_goto C d_M_oneUnit_171 (tgt := 2) (by decide) ?_
          refine j_take 4 rfl ?_
          exact ih (by omega) _ (OUP_set hF hu hs hto hcc (fun c _ _ => by omega) (by omega))
    refine j_iload_n C d_M_oneUnit_2 (x := nI j) rfl ?_
    refine j_iconst C d_M_oneUnit_3 (v := nI 5) (by decide) ?_
    refine j_icmp_ge C d_M_oneUnit_4 (tgt := 174) (by decide) (tI j (by omega)) (tI 5 (by decide)) (fun c_4 => ?_) (fun c_4 => ?_)
    · obtain rfl : j = 5 := by omega
      exact hret _ _ _ d_M_oneUnit_174 ⟨B1, rfl, hF⟩
    · refine j_iload_n C d_M_oneUnit_7 (x := nI s) rfl ?_
      refine j_iconst C d_M_oneUnit_8 (v := nI 2) (by decide) ?_
      refine j_iload_n C d_M_oneUnit_9 (x := nI j) rfl ?_
      refine j_imul C d_M_oneUnit_10 (z := nI (2 * j)) (pk_mul _ _) ?_
      refine j_ishr C d_M_oneUnit_11 (z := nI (s / 2 ^ (2 * j))) (nI_shr (by omega) (by omega)) ?_
      refine j_iconst C d_M_oneUnit_12 (v := nI 3) (by decide) ?_
      refine j_iand C d_M_oneUnit_13 (z := nI (dg s j)) (nI_dg (by omega)) ?_
      refine j_istore C d_M_oneUnit_14 (Nat.le_of_ble_eq_true rfl) (Nat.le_of_ble_eq_true rfl) (L' := [.ref (h 0), .int (nI s), .int (nI t), .int (nI j), .int (nI (dg s j))]) rfl ?_
      refine j_aload_n C d_M_oneUnit_16 (a := h 0) rfl ?_
      refine m_get C 2 (v := .ref (h 1)) d_M_oneUnit_17 (by decide) fl_M_2 rfl ?_
      refine j_iload_n C d_M_oneUnit_20 (x := nI j) rfl ?_
      refine j_zald C 1 0 (f := fun ξ => nI ((N 1) ξ)) (i := j) (v := nI (N 1 j)) d_M_oneUnit_21 rfl rfl (by omega) (by decide) rfl ?_
      have q_21 := held_1 hM (show j < 5 by omega)
      refine j_if_eq C d_M_oneUnit_22 (tgt := 168) (by decide) (tI (N 1 j) (by omega)) (fun c_22 => ?_) (fun c_22 => ?_)
      · exact hskip (by omega) (fun z => by obtain ⟨z1, z2, z3, z4, z5⟩ := z; first | omega | exact t_52 z4)
      · refine j_iload C d_M_oneUnit_25 (x := nI (dg s j)) rfl ?_
        refine j_aload_n C d_M_oneUnit_27 (a := h 0) rfl ?_
        refine m_get C 4 (v := .ref (h 3)) d_M_oneUnit_28 (by decide) fl_M_4 rfl ?_
        refine j_iload_n C d_M_oneUnit_31 (x := nI j) rfl ?_
        refine j_iald C 3 2 (f := fun ξ => nI ((N 3) ξ)) (i := j) (v := nI (N 3 j)) d_M_oneUnit_32 rfl rfl (by omega) (by decide) rfl ?_
        have q_32 := (hM.2 j (by omega)).2.1
        refine j_icmp_ge C d_M_oneUnit_33 (tgt := 168) (by decide) (tI (dg s j) (by omega)) (tI (N 3 j) (by omega)) (fun c_33 => ?_) (fun c_33 => ?_)
        · exact hskip (by omega) (fun z => by obtain ⟨z1, z2, z3, z4, z5⟩ := z; first | omega | exact t_52 z4)
        · refine j_aload_n C d_M_oneUnit_36 (a := h 0) rfl ?_
          refine m_get C 3 (v := .ref (h 2)) d_M_oneUnit_37 (by decide) fl_M_3 rfl ?_
          refine j_iload_n C d_M_oneUnit_40 (x := nI j) rfl ?_
          refine j_iald C 2 1 (f := fun ξ => nI ((N 2) ξ)) (i := j) (v := nI (N 2 j)) d_M_oneUnit_41 rfl rfl (by omega) (by decide) rfl ?_
          have q_41 := (hM.2 j (by omega)).1
          refine j_iload_n C d_M_oneUnit_42 (x := nI t) rfl ?_
          refine j_icmp_gt C d_M_oneUnit_43 (tgt := 168) (by decide) (tI (N 2 j) (by omega)) (tI t (by omega)) (fun c_43 => ?_) (fun c_43 => ?_)
          · exact hskip (by omega) (fun z => by obtain ⟨z1, z2, z3, z4, z5⟩ := z; first | omega | exact t_52 z4)
          · refine j_aload_n C d_M_oneUnit_46 (a := h 0) rfl ?_
            refine j_iload_n C d_M_oneUnit_47 (x := nI s) rfl ?_
            refine j_iload_n C d_M_oneUnit_48 (x := nI j) rfl ?_
            refine j_calli C (c_M_ready l D h cs hpr hM hs (by omega)) (As := [.int (nI s), .int (nI j)]) (rest := []) ok_M_ready ml_M_55 (by decide) d_M_oneUnit_49 (q0 := 0) rfl rfl rfl rfl (Nat.le_of_ble_eq_true rfl) ?_
            intro r_49 u' hq
            obtain ⟨rfl, hp_49⟩ := hq
            refine j_if_eq C d_M_oneUnit_52 (tgt := 168) (by decide) (rfl) (fun c_52 => ?_) (fun c_52 => ?_)
            · have t_52 := bool_f hp_49 c_52
              exact hskip (by omega) (fun z => by obtain ⟨z1, z2, z3, z4, z5⟩ := z; first | omega | exact t_52 z4)
            · have t_52 := bool_t hp_49 c_52
              refine j_iload_n C d_M_oneUnit_55 (x := nI j) rfl ?_
              refine j_aload_n C d_M_oneUnit_56 (a := h 0) rfl ?_
              refine m_get C 12 (v := .int (iI mi)) d_M_oneUnit_57 (by decide) fl_M_12 rfl ?_
              refine j_icmp_ne C d_M_oneUnit_60 (tgt := 71) (by decide) (tI j (by omega)) (iI_toInt (z := mi) (by omega) (by omega)) (fun c_60 => ?_) (fun c_60 => ?_)
              · refine j_iload C d_M_oneUnit_71 (x := nI (dg s j)) rfl ?_
                refine j_iconst C d_M_oneUnit_73 (v := nI 1) (by decide) ?_
                refine j_iadd C d_M_oneUnit_74 (z := nI ((dg s j) + 1)) (nI_add _ _) ?_
                refine j_aload_n C d_M_oneUnit_75 (a := h 0) rfl ?_
                refine m_get C 4 (v := .ref (h 3)) d_M_oneUnit_76 (by decide) fl_M_4 rfl ?_
                refine j_iload_n C d_M_oneUnit_79 (x := nI j) rfl ?_
                refine j_iald C 3 2 (f := fun ξ => nI ((N 3) ξ)) (i := j) (v := nI (N 3 j)) d_M_oneUnit_80 rfl rfl (by omega) (by decide) rfl ?_
                have q_80 := (hM.2 j (by omega)).2.1
                refine j_icmp_ne C d_M_oneUnit_81 (tgt := 95) (by decide) (tI ((dg s j) + 1) (by omega)) (tI (N 3 j) (by omega)) (fun c_81 => ?_) (fun c_81 => ?_)
                · refine j_sipush C d_M_oneUnit_95 (v := (-2000)) (by decide) ?_
                  have hu : UU N mi mb s t j := ⟨by omega, by omega, by omega, t_52, by omega⟩
                  refine j_top (y := iI (-2000)) (by decide) ?_
                  exact tail (by omega) hu _ (by omega) (by omega) (fun c hc => ⟨fun _ z => absurd z (by omega), fun _ => hc⟩)
                · refine j_aload_n C d_M_oneUnit_84 (a := h 0) rfl ?_
                  refine j_iload_n C d_M_oneUnit_85 (x := nI j) rfl ?_
                  refine j_iload_n C d_M_oneUnit_86 (x := nI t) rfl ?_
                  refine j_iconst C d_M_oneUnit_87 (v := nI 1) (by decide) ?_
                  refine j_iadd C d_M_oneUnit_88 (z := nI (t + 1)) (nI_add _ _) ?_
                  refine j_calli C (c_M_cost l D h cs hpr hM (i := j) (t := t + 1) (by omega) (by omega)) (As := [.int (nI j), .int (nI (t + 1))]) (rest := []) ok_M_cost ml_M_62 (by decide) d_M_oneUnit_89 (q0 := 0) rfl rfl rfl rfl (Nat.le_of_ble_eq_true rfl) ?_
                  intro r u' hq
                  obtain ⟨rfl, rfl⟩ := hq
                  have hcb := cst_bd (k := N 4 j) (t := t + 1) (hM.2 j (by omega)).2.2.2.1 (hM.2 j (by omega)).2.2.2.2.1 (by omega)
                  refine j_goto C d_M_oneUnit_92 (tgt := 98) (by decide) ?_
                  have hu : UU N mi mb s t j := ⟨by omega, by omega, by omega, t_52, by omega⟩
                  exact tail (by omega) hu _ (by omega) (by omega) (fun c _ => ⟨fun z _ => z, fun z => z (by omega)⟩)
              · refine j_iload_n C d_M_oneUnit_63 (x := nI t) rfl ?_
                refine j_aload_n C d_M_oneUnit_64 (a := h 0) rfl ?_
                refine m_get C 13 (v := .int (nI mb)) d_M_oneUnit_65 (by decide) fl_M_13 rfl ?_
                refine j_icmp_ge C d_M_oneUnit_68 (tgt := 168) (by decide) (tI t (by omega)) (tI mb (by omega)) (fun c_68 => ?_) (fun c_68 => ?_)
                · exact hskip (by omega) (fun z => by obtain ⟨z1, z2, z3, z4, z5⟩ := z; first | omega | exact t_52 z4)
                · refine j_iload C d_M_oneUnit_71 (x := nI (dg s j)) rfl ?_
                  refine j_iconst C d_M_oneUnit_73 (v := nI 1) (by decide) ?_
                  refine j_iadd C d_M_oneUnit_74 (z := nI ((dg s j) + 1)) (nI_add _ _) ?_
                  refine j_aload_n C d_M_oneUnit_75 (a := h 0) rfl ?_
                  refine m_get C 4 (v := .ref (h 3)) d_M_oneUnit_76 (by decide) fl_M_4 rfl ?_
                  refine j_iload_n C d_M_oneUnit_79 (x := nI j) rfl ?_
                  refine j_iald C 3 2 (f := fun ξ => nI ((N 3) ξ)) (i := j) (v := nI (N 3 j)) d_M_oneUnit_80 rfl rfl (by omega) (by decide) rfl ?_
                  have q_80 := (hM.2 j (by omega)).2.1
                  refine j_icmp_ne C d_M_oneUnit_81 (tgt := 95) (by decide) (tI ((dg s j) + 1) (by omega)) (tI (N 3 j) (by omega)) (fun c_81 => ?_) (fun c_81 => ?_)
                  · refine j_sipush C d_M_oneUnit_95 (v := (-2000)) (by decide) ?_
                    have hu : UU N mi mb s t j := ⟨by omega, by omega, by omega, t_52, by omega⟩
                    refine j_top (y := iI (-2000)) (by decide) ?_
                    exact tail (by omega) hu _ (by omega) (by omega) (fun c hc => ⟨fun _ z => absurd z (by omega), fun _ => hc⟩)
                  · refine j_aload_n C d_M_oneUnit_84 (a := h 0) rfl ?_
                    refine j_iload_n C d_M_oneUnit_85 (x := nI j) rfl ?_
                    refine j_iload_n C d_M_oneUnit_86 (x := nI t) rfl ?_
                    refine j_iconst C d_M_oneUnit_87 (v := nI 1) (by decide) ?_
                    refine j_iadd C d_M_oneUnit_88 (z := nI (t + 1)) (nI_add _ _) ?_
                    refine j_calli C (c_M_cost l D h cs hpr hM (i := j) (t := t + 1) (by omega) (by omega)) (As := [.int (nI j), .int (nI (t + 1))]) (rest := []) ok_M_cost ml_M_62 (by decide) d_M_oneUnit_89 (q0 := 0) rfl rfl rfl rfl (Nat.le_of_ble_eq_true rfl) ?_
                    intro r u' hq
                    obtain ⟨rfl, rfl⟩ := hq
                    have hcb := cst_bd (k := N 4 j) (t := t + 1) (hM.2 j (by omega)).2.2.2.1 (hM.2 j (by omega)).2.2.2.2.1 (by omega)
                    refine j_goto C d_M_oneUnit_92 (tgt := 98) (by decide) ?_
                    have hu : UU N mi mb s t j := ⟨by omega, by omega, by omega, t_52, by omega⟩
                    exact tail (by omega) hu _ (by omega) (by omega) (fun c _ => ⟨fun z _ => z, fun z => z (by omega)⟩)
  exact key 0 (by omega) _ (OUP_0 hB)
end
section
theorem full_lt {pr : Nat} {N : Nat → Nat → Nat} (hM : okM pr N) : fullN N < 1024 := by rw [← flP_5]; exact flP_lt hM
theorem m_pred (m : Nat) : iI (((m + 1 : Nat) : Int) - 1) = nI m := by
  rw [nI_iI]
  congr 1
  omega
theorem d_M_solve_0 : decode b_M_solve 0 = .ok (.aload_n 0, 1) := by decide +kernel
theorem d_M_solve_1 : decode b_M_solve 1 = .ok (.iconst 0, 1) := by decide +kernel
theorem d_M_solve_2 : decode b_M_solve 2 = .ok (.putfield 45, 3) := by decide +kernel
theorem d_M_solve_5 : decode b_M_solve 5 = .ok (.iconst 0, 1) := by decide +kernel
theorem d_M_solve_6 : decode b_M_solve 6 = .ok (.istore_n 1, 1) := by decide +kernel
theorem d_M_solve_7 : decode b_M_solve 7 = .ok (.iload_n 1, 1) := by decide +kernel
theorem d_M_solve_8 : decode b_M_solve 8 = .ok (.iconst 5, 1) := by decide +kernel
theorem d_M_solve_9 : decode b_M_solve 9 = .ok (.if_icmp .ge 41, 3) := by decide +kernel
theorem d_M_solve_12 : decode b_M_solve 12 = .ok (.aload_n 0, 1) := by decide +kernel
theorem d_M_solve_13 : decode b_M_solve 13 = .ok (.aload_n 0, 1) := by decide +kernel
theorem d_M_solve_14 : decode b_M_solve 14 = .ok (.getfield 45, 3) := by decide +kernel
theorem d_M_solve_17 : decode b_M_solve 17 = .ok (.aload_n 0, 1) := by decide +kernel
theorem d_M_solve_18 : decode b_M_solve 18 = .ok (.getfield 7, 3) := by decide +kernel
theorem d_M_solve_21 : decode b_M_solve 21 = .ok (.iload_n 1, 1) := by decide +kernel
theorem d_M_solve_22 : decode b_M_solve 22 = .ok (.baload, 1) := by decide +kernel
theorem d_M_solve_23 : decode b_M_solve 23 = .ok (.ifCond .eq 16, 3) := by decide +kernel
theorem d_M_solve_26 : decode b_M_solve 26 = .ok (.aload_n 0, 1) := by decide +kernel
theorem d_M_solve_27 : decode b_M_solve 27 = .ok (.getfield 17, 3) := by decide +kernel
theorem d_M_solve_30 : decode b_M_solve 30 = .ok (.iload_n 1, 1) := by decide +kernel
theorem d_M_solve_31 : decode b_M_solve 31 = .ok (.iaload, 1) := by decide +kernel
theorem d_M_solve_32 : decode b_M_solve 32 = .ok (.iconst 2, 1) := by decide +kernel
theorem d_M_solve_33 : decode b_M_solve 33 = .ok (.iload_n 1, 1) := by decide +kernel
theorem d_M_solve_34 : decode b_M_solve 34 = .ok (.imul, 1) := by decide +kernel
theorem d_M_solve_35 : decode b_M_solve 35 = .ok (.ishl, 1) := by decide +kernel
theorem d_M_solve_36 : decode b_M_solve 36 = .ok (.goto 4, 3) := by decide +kernel
theorem d_M_solve_39 : decode b_M_solve 39 = .ok (.iconst 0, 1) := by decide +kernel
theorem d_M_solve_40 : decode b_M_solve 40 = .ok (.iadd, 1) := by decide +kernel
theorem d_M_solve_41 : decode b_M_solve 41 = .ok (.putfield 45, 3) := by decide +kernel
theorem d_M_solve_44 : decode b_M_solve 44 = .ok (.iinc 1 1, 3) := by decide +kernel
theorem d_M_solve_47 : decode b_M_solve 47 = .ok (.goto (-40), 3) := by decide +kernel
theorem d_M_solve_50 : decode b_M_solve 50 = .ok (.iconst 0, 1) := by decide +kernel
theorem d_M_solve_51 : decode b_M_solve 51 = .ok (.istore_n 1, 1) := by decide +kernel
theorem d_M_solve_52 : decode b_M_solve 52 = .ok (.iload_n 1, 1) := by decide +kernel
theorem d_M_solve_53 : decode b_M_solve 53 = .ok (.sipush 1024, 3) := by decide +kernel
theorem d_M_solve_56 : decode b_M_solve 56 = .ok (.if_icmp .ge 18, 3) := by decide +kernel
theorem d_M_solve_59 : decode b_M_solve 59 = .ok (.aload_n 0, 1) := by decide +kernel
theorem d_M_solve_60 : decode b_M_solve 60 = .ok (.getfield 32, 3) := by decide +kernel
theorem d_M_solve_63 : decode b_M_solve 63 = .ok (.iload_n 1, 1) := by decide +kernel
theorem d_M_solve_64 : decode b_M_solve 64 = .ok (.sipush 9999, 3) := by decide +kernel
theorem d_M_solve_67 : decode b_M_solve 67 = .ok (.iastore, 1) := by decide +kernel
theorem d_M_solve_68 : decode b_M_solve 68 = .ok (.iinc 1 1, 3) := by decide +kernel
theorem d_M_solve_71 : decode b_M_solve 71 = .ok (.goto (-19), 3) := by decide +kernel
theorem d_M_solve_74 : decode b_M_solve 74 = .ok (.aload_n 0, 1) := by decide +kernel
theorem d_M_solve_75 : decode b_M_solve 75 = .ok (.getfield 32, 3) := by decide +kernel
theorem d_M_solve_78 : decode b_M_solve 78 = .ok (.iconst 0, 1) := by decide +kernel
theorem d_M_solve_79 : decode b_M_solve 79 = .ok (.sipush (-2000), 3) := by decide +kernel
theorem d_M_solve_82 : decode b_M_solve 82 = .ok (.iastore, 1) := by decide +kernel
theorem d_M_solve_83 : decode b_M_solve 83 = .ok (.aload_n 0, 1) := by decide +kernel
theorem d_M_solve_84 : decode b_M_solve 84 = .ok (.aload_n 0, 1) := by decide +kernel
theorem d_M_solve_85 : decode b_M_solve 85 = .ok (.getfield 45, 3) := by decide +kernel
theorem d_M_solve_88 : decode b_M_solve 88 = .ok (.ifCond .ne 7, 3) := by decide +kernel
theorem d_M_solve_91 : decode b_M_solve 91 = .ok (.iconst 0, 1) := by decide +kernel
theorem d_M_solve_92 : decode b_M_solve 92 = .ok (.goto 4, 3) := by decide +kernel
theorem d_M_solve_95 : decode b_M_solve 95 = .ok (.iconst (-1), 1) := by decide +kernel
theorem d_M_solve_96 : decode b_M_solve 96 = .ok (.putfield 48, 3) := by decide +kernel
theorem d_M_solve_99 : decode b_M_solve 99 = .ok (.iconst 0, 1) := by decide +kernel
theorem d_M_solve_100 : decode b_M_solve 100 = .ok (.istore_n 1, 1) := by decide +kernel
theorem d_M_solve_101 : decode b_M_solve 101 = .ok (.iload_n 1, 1) := by decide +kernel
theorem d_M_solve_102 : decode b_M_solve 102 = .ok (.bipush 34, 2) := by decide +kernel
theorem d_M_solve_104 : decode b_M_solve 104 = .ok (.if_icmp .ge 79, 3) := by decide +kernel
theorem d_M_solve_107 : decode b_M_solve 107 = .ok (.aload_n 0, 1) := by decide +kernel
theorem d_M_solve_108 : decode b_M_solve 108 = .ok (.getfield 45, 3) := by decide +kernel
theorem d_M_solve_111 : decode b_M_solve 111 = .ok (.sipush 1023, 3) := by decide +kernel
theorem d_M_solve_114 : decode b_M_solve 114 = .ok (.iand, 1) := by decide +kernel
theorem d_M_solve_115 : decode b_M_solve 115 = .ok (.istore_n 2, 1) := by decide +kernel
theorem d_M_solve_116 : decode b_M_solve 116 = .ok (.iload_n 2, 1) := by decide +kernel
theorem d_M_solve_117 : decode b_M_solve 117 = .ok (.ifCond .lt 27, 3) := by decide +kernel
theorem d_M_solve_120 : decode b_M_solve 120 = .ok (.aload_n 0, 1) := by decide +kernel
theorem d_M_solve_121 : decode b_M_solve 121 = .ok (.getfield 32, 3) := by decide +kernel
theorem d_M_solve_124 : decode b_M_solve 124 = .ok (.iload_n 2, 1) := by decide +kernel
theorem d_M_solve_125 : decode b_M_solve 125 = .ok (.iaload, 1) := by decide +kernel
theorem d_M_solve_126 : decode b_M_solve 126 = .ok (.sipush 9999, 3) := by decide +kernel
theorem d_M_solve_129 : decode b_M_solve 129 = .ok (.if_icmp .ge 9, 3) := by decide +kernel
theorem d_M_solve_132 : decode b_M_solve 132 = .ok (.aload_n 0, 1) := by decide +kernel
theorem d_M_solve_133 : decode b_M_solve 133 = .ok (.iload_n 2, 1) := by decide +kernel
theorem d_M_solve_134 : decode b_M_solve 134 = .ok (.iload_n 1, 1) := by decide +kernel
theorem d_M_solve_135 : decode b_M_solve 135 = .ok (.invokevirtual 51, 3) := by decide +kernel
theorem d_M_solve_138 : decode b_M_solve 138 = .ok (.iinc 2 (-1), 3) := by decide +kernel
theorem d_M_solve_141 : decode b_M_solve 141 = .ok (.goto (-25), 3) := by decide +kernel
theorem d_M_solve_144 : decode b_M_solve 144 = .ok (.aload_n 0, 1) := by decide +kernel
theorem d_M_solve_145 : decode b_M_solve 145 = .ok (.getfield 48, 3) := by decide +kernel
theorem d_M_solve_148 : decode b_M_solve 148 = .ok (.ifCond .ge 29, 3) := by decide +kernel
theorem d_M_solve_151 : decode b_M_solve 151 = .ok (.aload_n 0, 1) := by decide +kernel
theorem d_M_solve_152 : decode b_M_solve 152 = .ok (.getfield 32, 3) := by decide +kernel
theorem d_M_solve_155 : decode b_M_solve 155 = .ok (.aload_n 0, 1) := by decide +kernel
theorem d_M_solve_156 : decode b_M_solve 156 = .ok (.getfield 45, 3) := by decide +kernel
theorem d_M_solve_159 : decode b_M_solve 159 = .ok (.sipush 1023, 3) := by decide +kernel
theorem d_M_solve_162 : decode b_M_solve 162 = .ok (.iand, 1) := by decide +kernel
theorem d_M_solve_163 : decode b_M_solve 163 = .ok (.iaload, 1) := by decide +kernel
theorem d_M_solve_164 : decode b_M_solve 164 = .ok (.sipush 9999, 3) := by decide +kernel
theorem d_M_solve_167 : decode b_M_solve 167 = .ok (.if_icmp .ge 10, 3) := by decide +kernel
theorem d_M_solve_170 : decode b_M_solve 170 = .ok (.aload_n 0, 1) := by decide +kernel
theorem d_M_solve_171 : decode b_M_solve 171 = .ok (.iload_n 1, 1) := by decide +kernel
theorem d_M_solve_172 : decode b_M_solve 172 = .ok (.iconst 1, 1) := by decide +kernel
theorem d_M_solve_173 : decode b_M_solve 173 = .ok (.iadd, 1) := by decide +kernel
theorem d_M_solve_174 : decode b_M_solve 174 = .ok (.putfield 48, 3) := by decide +kernel
theorem d_M_solve_177 : decode b_M_solve 177 = .ok (.iinc 1 1, 3) := by decide +kernel
theorem d_M_solve_180 : decode b_M_solve 180 = .ok (.goto (-79), 3) := by decide +kernel
theorem d_M_solve_183 : decode b_M_solve 183 = .ok (.return_, 1) := by decide +kernel
set_option maxHeartbeats 4000000 in
set_option maxRecDepth 100000 in
theorem lp_M_solve4 {l : Launch} {D : va_G} {h : Nat → Nat} {cs : Nat → ClassId} {cp : Nat} {cap : Int} {fu : Nat} {fd mi : Int} {mb : Nat} {N : Nat → Nat → Nat} {B : Nat → Int} {K : Kc} (C : Kok D (tysM cs) K b_M_solve 3 R_M 2) {pr : Nat} (hpr : pr < 32) (hM : okM pr N) (hmi : -1 ≤ mi ∧ mi < 5) (hmb : mb ≤ 60) {t : Nat} (ht : t < 34) {b : Nat → Int} (kk : ∀ B1, DPI N mi mb (fullN N) t 0 b B1 → J l D K (wM h cs) (cp, cap, fullN N, fd, mi, mb, N, B1) 144 [.ref (h 0), .int (nI t)] []) : ∀ m : Nat, m ≤ fullN N + 1 → ∀ B1, DPI N mi mb (fullN N) t m b B1 → J l D K (wM h cs) (cp, cap, fullN N, fd, mi, mb, N, B1) 116 [.ref (h 0), .int (nI t), .int (iI (((m : Nat) : Int) - 1))] [] := by
  have hfl := full_lt hM
  intro m
  induction m with
  | zero =>
    intro hm B1 hF
    refine j_iload_n C d_M_solve_116 (x := iI (((0 : Nat) : Int) - 1)) rfl ?_
    refine j_if_lt C d_M_solve_117 (tgt := 144) (by decide) (iI_toInt (z := ((0 : Nat) : Int) - 1) (by omega) (by omega)) (fun c_117 => ?_) (fun c_117 => ?_)
    · refine j_take 2 rfl ?_
      exact kk B1 hF
    · exact absurd c_117 (by omega)
  | succ m ih =>
    intro hm B1 hF
    have hbm := hF.1 m (by omega)
    rw [m_pred m]
    refine j_iload_n C d_M_solve_116 (x := nI m) rfl ?_
    refine j_if_lt C d_M_solve_117 (tgt := 144) (by decide) (tI m (by omega)) (fun c_117 => ?_) (fun c_117 => ?_)
    · exact absurd c_117 (by omega)
    · refine j_aload_n C d_M_solve_120 (a := h 0) rfl ?_
      refine m_get C 9 (v := .ref (h 8)) d_M_solve_121 (by decide) fl_M_9 rfl ?_
      refine j_iload_n C d_M_solve_124 (x := nI m) rfl ?_
      refine j_iald C 8 7 (f := fun ξ => iI (B1 ξ)) (i := m) (v := iI (B1 m)) d_M_solve_125 rfl rfl (by omega) (by decide) rfl ?_
      refine j_sipush C d_M_solve_126 (v := nI 9999) (by decide) ?_
      refine j_icmp_ge C d_M_solve_129 (tgt := 138) (by decide) (iI_toInt (z := B1 m) (by omega) (by omega)) (tI 9999 (by decide)) (fun c_129 => ?_) (fun c_129 => ?_)
      · have hnew := DPI_skip hF (by omega)
        refine j_iinc C d_M_solve_138 (Nat.le_of_ble_eq_true rfl) (x := nI m) (v := iI ((m : Int) - 1)) rfl (nI_dec _) (L' := [.ref (h 0), .int (nI t), .int (iI ((m : Int) - 1))]) rfl ?_
        refine j_goto C d_M_solve_141 (tgt := 116) (by decide) ?_
        exact ih (by omega) _ hnew
      · refine j_aload_n C d_M_solve_132 (a := h 0) rfl ?_
        refine j_iload_n C d_M_solve_133 (x := nI m) rfl ?_
        refine j_iload_n C d_M_solve_134 (x := nI t) rfl ?_
        refine j_callv C (c_M_oneUnit l D h cs hpr hM (s := m) (t := t) (by omega) ht hmi hmb hF.1 (by omega)) (As := [.int (nI m), .int (nI t)]) (rest := []) ok_M_oneUnit ml_M_51 (by decide) d_M_solve_135 (q0 := 0) rfl rfl rfl rfl (Nat.le_of_ble_eq_true rfl) ?_
        intro u' hq
        obtain ⟨B2, rfl, hO⟩ := hq
        have hnew := DPI_unit (by omega) hfl hF hO
        refine j_iinc C d_M_solve_138 (Nat.le_of_ble_eq_true rfl) (x := nI m) (v := iI ((m : Int) - 1)) rfl (nI_dec _) (L' := [.ref (h 0), .int (nI t), .int (iI ((m : Int) - 1))]) rfl ?_
        refine j_goto C d_M_solve_141 (tgt := 116) (by decide) ?_
        exact ih (by omega) _ hnew
set_option maxHeartbeats 4000000 in
set_option maxRecDepth 100000 in
theorem lp_M_solve3 {l : Launch} {D : va_G} {h : Nat → Nat} {cs : Nat → ClassId} {cp : Nat} {cap : Int} {fu : Nat} {fd mi : Int} {mb : Nat} {N : Nat → Nat → Nat} {B : Nat → Int} {K : Kc} (C : Kok D (tysM cs) K b_M_solve 3 R_M 2) {pr : Nat} (hpr : pr < 32) (hM : okM pr N) (hmi : -1 ≤ mi ∧ mi < 5) (hmb : mb ≤ 60) (kk : ∀ fd1 B1, DPP N mi mb 34 B1 → FDP N mi mb 34 fd1 → J l D K (wM h cs) (cp, cap, fullN N, fd1, mi, mb, N, B1) 183 [.ref (h 0)] []) : ∀ t, t ≤ 34 → ∀ fd1 B1, DPP N mi mb t B1 → FDP N mi mb t fd1 → J l D K (wM h cs) (cp, cap, fullN N, fd1, mi, mb, N, B1) 101 [.ref (h 0), .int (nI t)] [] := by
  have hfl := full_lt hM
  refine up_ind 34 ?_
  intro t ht ih fd1 b hD hF
  refine j_iload_n C d_M_solve_101 (x := nI t) rfl ?_
  refine j_bipush C d_M_solve_102 (v := nI 34) (by decide) ?_
  refine j_icmp_ge C d_M_solve_104 (tgt := 183) (by decide) (tI t (by omega)) (tI 34 (by decide)) (fun c_104 => ?_) (fun c_104 => ?_)
  · obtain rfl : t = 34 := by omega
    refine j_take 1 rfl ?_
    exact kk _ _ hD hF
  · refine j_aload_n C d_M_solve_107 (a := h 0) rfl ?_
    refine m_get C 10 (v := .int (nI (fullN N))) d_M_solve_108 (by decide) fl_M_10 rfl ?_
    refine j_sipush C d_M_solve_111 (v := nI 1023) (by decide) ?_
    refine j_iand C d_M_solve_114 (z := nI ((fullN N) % 1024)) (nI_and1023 (by omega)) ?_
    rw [Nat.mod_eq_of_lt hfl]
    refine j_istore_n C d_M_solve_115 (Nat.le_of_ble_eq_true rfl) (Nat.le_of_ble_eq_true rfl) (L' := [.ref (h 0), .int (nI t), .int (nI (fullN N))]) rfl ?_
    rw [← m_pred (fullN N)]
    refine lp_M_solve4 (fu := fu) (B := B) C hpr hM hmi hmb (t := t) (by omega) (b := b) (fun B1 hI => ?_) (fullN N + 1) (Nat.le_refl _) b (DPI_0 hD.1)
    have hD1 := DPP_step hM hD hI
    have hbf := hI.1 _ hfl
    have hfb := FDP_bd hF
    have hrc := hD1.2 9998 (by omega) (by omega) _ hfl
    refine j_aload_n C d_M_solve_144 (a := h 0) rfl ?_
    refine m_get C 11 (v := .int (iI fd1)) d_M_solve_145 (by decide) fl_M_11 rfl ?_
    refine j_if_ge C d_M_solve_148 (tgt := 177) (by decide) (iI_toInt (z := fd1) (by omega) (by omega)) (fun c_148 => ?_) (fun c_148 => ?_)
    · have hnew := FDP_keep hF c_148
      refine j_iinc C d_M_solve_177 (Nat.le_of_ble_eq_true rfl) (x := nI t) (v := nI (t + 1)) rfl (nI_add _ _) (L' := [.ref (h 0), .int (nI (t + 1))]) rfl ?_
      refine j_goto C d_M_solve_180 (tgt := 101) (by decide) ?_
      exact ih (by omega) _ _ hD1 hnew
    · refine j_aload_n C d_M_solve_151 (a := h 0) rfl ?_
      refine m_get C 9 (v := .ref (h 8)) d_M_solve_152 (by decide) fl_M_9 rfl ?_
      refine j_aload_n C d_M_solve_155 (a := h 0) rfl ?_
      refine m_get C 10 (v := .int (nI (fullN N))) d_M_solve_156 (by decide) fl_M_10 rfl ?_
      refine j_sipush C d_M_solve_159 (v := nI 1023) (by decide) ?_
      refine j_iand C d_M_solve_162 (z := nI ((fullN N) % 1024)) (nI_and1023 (by omega)) ?_
      rw [Nat.mod_eq_of_lt hfl]
      refine j_iald C 8 7 (f := fun ξ => iI (B1 ξ)) (i := fullN N) (v := iI (B1 (fullN N))) d_M_solve_163 rfl rfl (by omega) (by decide) rfl ?_
      refine j_sipush C d_M_solve_164 (v := nI 9999) (by decide) ?_
      refine j_icmp_ge C d_M_solve_167 (tgt := 177) (by decide) (iI_toInt (z := B1 (fullN N)) (by omega) (by omega)) (tI 9999 (by decide)) (fun c_167 => ?_) (fun c_167 => ?_)
      · have hnew := FDP_not hF c_148 (fun z => by have := hrc.mpr z; omega)
        refine j_iinc C d_M_solve_177 (Nat.le_of_ble_eq_true rfl) (x := nI t) (v := nI (t + 1)) rfl (nI_add _ _) (L' := [.ref (h 0), .int (nI (t + 1))]) rfl ?_
        refine j_goto C d_M_solve_180 (tgt := 101) (by decide) ?_
        exact ih (by omega) _ _ hD1 hnew
      · have hnew := FDP_yes hF c_148 (hrc.mp (by omega))
        refine j_aload_n C d_M_solve_170 (a := h 0) rfl ?_
        refine j_iload_n C d_M_solve_171 (x := nI t) rfl ?_
        refine j_iconst C d_M_solve_172 (v := nI 1) (by decide) ?_
        refine j_iadd C d_M_solve_173 (z := nI (t + 1)) (nI_add _ _) ?_
        refine j_top (nI_iI (t + 1)) ?_
        refine m_put C 11 (u' := (cp, cap, fullN N, ((t + 1 : Nat) : Int), mi, mb, N, B1)) d_M_solve_174 (by decide) fl_M_11 rfl rfl rfl ?_
        refine j_iinc C d_M_solve_177 (Nat.le_of_ble_eq_true rfl) (x := nI t) (v := nI (t + 1)) rfl (nI_add _ _) (L' := [.ref (h 0), .int (nI (t + 1))]) rfl ?_
        refine j_goto C d_M_solve_180 (tgt := 101) (by decide) ?_
        exact ih (by omega) _ _ hD1 hnew
set_option maxHeartbeats 4000000 in
set_option maxRecDepth 100000 in
/-- solve() -/
theorem c_M_solve (l : Launch) (D : va_G) (h : Nat → Nat) (cs : Nat → ClassId) {cp : Nat} {cap : Int} {fu : Nat} {fd mi : Int} {mb : Nat} {N : Nat → Nat → Nat} {B : Nat → Int} {pr : Nat} (hpr : pr < 32) (hM : okM pr N) (hmi : -1 ≤ mi ∧ mi < 5) (hmb : mb ≤ 60) : CV l y_M_solve b_M_solve 3 2 D (tysM cs) (wM h cs) (cp, cap, fu, fd, mi, mb, N, B) [.ref (h 0)] (fun u' => ∃ fd' B', u' = (cp, cap, fullN N, fd', mi, mb, N, B') ∧ DPP N mi mb 34 B' ∧ FDP N mi mb 34 fd') := by
  refine CV_of ok_M_solve (Nat.le_of_ble_eq_true rfl) (cat_all rfl) ?_
  intro K C hret
  have C : Kok D (tysM cs) K b_M_solve 3 R_M 2 := C
  have hfl := full_lt hM
  refine j_aload_n C d_M_solve_0 (a := h 0) rfl ?_
  refine j_iconst C d_M_solve_1 (v := nI 0) (by decide) ?_
  refine m_put C 10 (u' := (cp, cap, 0, fd, mi, mb, N, B)) d_M_solve_2 (by decide) fl_M_10 rfl rfl rfl ?_
  refine j_iconst C d_M_solve_5 (v := nI 0) (by decide) ?_
  refine j_istore_n C d_M_solve_6 (Nat.le_of_ble_eq_true rfl) (Nat.le_of_ble_eq_true rfl) (L' := [.ref (h 0), .int (nI 0)]) rfl ?_
  have key2 : ∀ k, k ≤ 1024 → ∀ B1, (∀ q, q < k → B1 q = 9999) → J l D K (wM h cs) (cp, cap, fullN N, fd, mi, mb, N, B1) 52 [.ref (h 0), .int (nI k)] [] := by
    refine up_ind 1024 ?_
    intro k hk ih B1 hF
    refine j_iload_n C d_M_solve_52 (x := nI k) rfl ?_
    refine j_sipush C d_M_solve_53 (v := nI 1024) (by decide) ?_
    refine j_icmp_ge C d_M_solve_56 (tgt := 74) (by decide) (tI k (by omega)) (tI 1024 (by decide)) (fun c_56 => ?_) (fun c_56 => ?_)
    · obtain rfl : k = 1024 := by omega
      refine j_aload_n C d_M_solve_74 (a := h 0) rfl ?_
      refine m_get C 9 (v := .ref (h 8)) d_M_solve_75 (by decide) fl_M_9 rfl ?_
      refine j_iconst C d_M_solve_78 (v := nI 0) (by decide) ?_
      refine j_sipush C d_M_solve_79 (v := (-2000)) (by decide) ?_
      refine j_top (y := iI (-2000)) (by decide) ?_
      refine j_iast C 8 7 iI (g := B1) (i := 0) (v := (-2000)) (u' := (cp, cap, fullN N, fd, mi, mb, N, va_up B1 0 (-2000))) d_M_solve_82 rfl rfl (by omega) (by decide) rfl ?_
      refine j_aload_n C d_M_solve_83 (a := h 0) rfl ?_
      refine j_aload_n C d_M_solve_84 (a := h 0) rfl ?_
      refine m_get C 10 (v := .int (nI (fullN N))) d_M_solve_85 (by decide) fl_M_10 rfl ?_
      refine j_if_ne C d_M_solve_88 (tgt := 95) (by decide) (tI (fullN N) (by omega)) (fun c_88 => ?_) (fun c_88 => ?_)
      · refine j_iconst C d_M_solve_95 (v := (-1)) (by decide) ?_
        refine j_top (y := iI (-1)) (by decide) ?_
        refine m_put C 11 (u' := (cp, cap, fullN N, (-1), mi, mb, N, va_up B1 0 (-2000))) d_M_solve_96 (by decide) fl_M_11 rfl rfl rfl ?_
        refine j_iconst C d_M_solve_99 (v := nI 0) (by decide) ?_
        refine j_istore_n C d_M_solve_100 (Nat.le_of_ble_eq_true rfl) (Nat.le_of_ble_eq_true rfl) (L' := [.ref (h 0), .int (nI 0)]) rfl ?_
        have hD0 : DPP N mi mb 0 (va_up B1 0 (-2000)) := DPP_0 (va_up_self _ _ _) (fun q hq h0 => by rw [va_up_ne _ _ h0]; exact hF q hq)
        refine lp_M_solve3 (fu := fu) (fd := fd) (B := B) C hpr hM hmi hmb (fun fd1 B1 hD hF => ?_) 0 (by omega) _ _ hD0 (by first | exact FDP_0a (by omega) | exact FDP_0b (by omega))
        exact hret _ _ _ d_M_solve_183 ⟨fd1, B1, rfl, hD, hF⟩
      · refine j_iconst C d_M_solve_91 (v := nI 0) (by decide) ?_
        refine j_goto C d_M_solve_92 (tgt := 96) (by decide) ?_
        refine j_top (nI_iI 0) ?_
        refine m_put C 11 (u' := (cp, cap, fullN N, ((0 : Nat) : Int), mi, mb, N, va_up B1 0 (-2000))) d_M_solve_96 (by decide) fl_M_11 rfl rfl rfl ?_
        refine j_iconst C d_M_solve_99 (v := nI 0) (by decide) ?_
        refine j_istore_n C d_M_solve_100 (Nat.le_of_ble_eq_true rfl) (Nat.le_of_ble_eq_true rfl) (L' := [.ref (h 0), .int (nI 0)]) rfl ?_
        have hD0 : DPP N mi mb 0 (va_up B1 0 (-2000)) := DPP_0 (va_up_self _ _ _) (fun q hq h0 => by rw [va_up_ne _ _ h0]; exact hF q hq)
        refine lp_M_solve3 (fu := fu) (fd := fd) (B := B) C hpr hM hmi hmb (fun fd1 B1 hD hF => ?_) 0 (by omega) _ _ hD0 (by first | exact FDP_0a (by omega) | exact FDP_0b (by omega))
        exact hret _ _ _ d_M_solve_183 ⟨fd1, B1, rfl, hD, hF⟩
    · refine j_aload_n C d_M_solve_59 (a := h 0) rfl ?_
      refine m_get C 9 (v := .ref (h 8)) d_M_solve_60 (by decide) fl_M_9 rfl ?_
      refine j_iload_n C d_M_solve_63 (x := nI k) rfl ?_
      refine j_sipush C d_M_solve_64 (v := nI 9999) (by decide) ?_
      refine j_top (nI_iI 9999) ?_
      refine j_iast C 8 7 iI (g := B1) (i := k) (v := ((9999 : Nat) : Int)) (u' := (cp, cap, fullN N, fd, mi, mb, N, va_up B1 k ((9999 : Nat) : Int))) d_M_solve_67 rfl rfl (by omega) (by decide) rfl ?_
      refine j_iinc C d_M_solve_68 (Nat.le_of_ble_eq_true rfl) (x := nI k) (v := nI (k + 1)) rfl (nI_add _ _) (L' := [.ref (h 0), .int (nI (k + 1))]) rfl ?_
      refine j_goto C d_M_solve_71 (tgt := 52) (by decide) ?_
      exact ih (by omega) _ (fun q hq => by rcases lt_succ_cases hq with z | rfl; rw [va_up_ne _ _ (by omega)]; exact hF q z; rw [va_up_self]; rfl)
  have key1 : ∀ j, j ≤ 5 → J l D K (wM h cs) (cp, cap, flP N j, fd, mi, mb, N, B) 7 [.ref (h 0), .int (nI j)] [] := by
    refine up_ind 5 ?_
    intro j hj ih
    have hlj := flP_lt (k := j) hM
    refine j_iload_n C d_M_solve_7 (x := nI j) rfl ?_
    refine j_iconst C d_M_solve_8 (v := nI 5) (by decide) ?_
    refine j_icmp_ge C d_M_solve_9 (tgt := 50) (by decide) (tI j (by omega)) (tI 5 (by decide)) (fun c_9 => ?_) (fun c_9 => ?_)
    · obtain rfl : j = 5 := by omega
      rw [flP_5]
      refine j_iconst C d_M_solve_50 (v := nI 0) (by decide) ?_
      refine j_istore_n C d_M_solve_51 (Nat.le_of_ble_eq_true rfl) (Nat.le_of_ble_eq_true rfl) (L' := [.ref (h 0), .int (nI 0)]) rfl ?_
      exact key2 0 (by omega) B (fun q hq => by omega)
    · refine j_aload_n C d_M_solve_12 (a := h 0) rfl ?_
      refine j_aload_n C d_M_solve_13 (a := h 0) rfl ?_
      refine m_get C 10 (v := .int (nI (flP N j))) d_M_solve_14 (by decide) fl_M_10 rfl ?_
      refine j_aload_n C d_M_solve_17 (a := h 0) rfl ?_
      refine m_get C 2 (v := .ref (h 1)) d_M_solve_18 (by decide) fl_M_2 rfl ?_
      refine j_iload_n C d_M_solve_21 (x := nI j) rfl ?_
      refine j_zald C 1 0 (f := fun ξ => nI ((N 1) ξ)) (i := j) (v := nI (N 1 j)) d_M_solve_22 rfl rfl (by omega) (by decide) rfl ?_
      have q_22 := held_1 hM (show j < 5 by omega)
      refine j_if_eq C d_M_solve_23 (tgt := 39) (by decide) (tI (N 1 j) (by omega)) (fun c_23 => ?_) (fun c_23 => ?_)
      · refine j_iconst C d_M_solve_39 (v := nI 0) (by decide) ?_
        refine j_iadd C d_M_solve_40 (z := nI ((flP N j) + 0)) (nI_add _ _) ?_
        refine m_put C 10 (u' := (cp, cap, (flP N j) + 0, fd, mi, mb, N, B)) d_M_solve_41 (by decide) fl_M_10 rfl rfl rfl ?_
        refine j_iinc C d_M_solve_44 (Nat.le_of_ble_eq_true rfl) (x := nI j) (v := nI (j + 1)) rfl (nI_add _ _) (L' := [.ref (h 0), .int (nI (j + 1))]) rfl ?_
        refine j_goto C d_M_solve_47 (tgt := 7) (by decide) ?_
        have hs := flP_s (N := N) (k := j) (by omega)
        first | rw [if_pos (by omega)] at hs | rw [if_neg (by omega), Nat.zero_mul] at hs
        rw [← hs]
        exact ih (by omega)
      · refine j_aload_n C d_M_solve_26 (a := h 0) rfl ?_
        refine m_get C 4 (v := .ref (h 3)) d_M_solve_27 (by decide) fl_M_4 rfl ?_
        refine j_iload_n C d_M_solve_30 (x := nI j) rfl ?_
        refine j_iald C 3 2 (f := fun ξ => nI ((N 3) ξ)) (i := j) (v := nI (N 3 j)) d_M_solve_31 rfl rfl (by omega) (by decide) rfl ?_
        refine j_iconst C d_M_solve_32 (v := nI 2) (by decide) ?_
        refine j_iload_n C d_M_solve_33 (x := nI j) rfl ?_
        refine j_imul C d_M_solve_34 (z := nI (2 * j)) (pk_mul _ _) ?_
        have hsh := sh_bd (a := N 3 j) (j := j) (hM.2 j (by omega)).2.1 (by omega)
        refine j_ishl C d_M_solve_35 (z := nI ((N 3 j) * 2 ^ (2 * j))) (nI_shl (by omega) (by omega)) ?_
        refine j_goto C d_M_solve_36 (tgt := 40) (by decide) ?_
        refine j_iadd C d_M_solve_40 (z := nI ((flP N j) + ((N 3 j) * 2 ^ (2 * j)))) (nI_add _ _) ?_
        refine m_put C 10 (u' := (cp, cap, (flP N j) + ((N 3 j) * 2 ^ (2 * j)), fd, mi, mb, N, B)) d_M_solve_41 (by decide) fl_M_10 rfl rfl rfl ?_
        refine j_iinc C d_M_solve_44 (Nat.le_of_ble_eq_true rfl) (x := nI j) (v := nI (j + 1)) rfl (nI_add _ _) (L' := [.ref (h 0), .int (nI (j + 1))]) rfl ?_
        refine j_goto C d_M_solve_47 (tgt := 7) (by decide) ?_
        have hs := flP_s (N := N) (k := j) (by omega)
        first | rw [if_pos (by omega)] at hs | rw [if_neg (by omega), Nat.zero_mul] at hs
        rw [← hs]
        exact ih (by omega)
  refine j_same (u' := (cp, cap, flP N 0, fd, mi, mb, N, B)) (by rw [flP_0]) ?_
  exact key1 0 (by omega)
theorem d_M_good_0 : decode b_M_good 0 = .ok (.aload_n 0, 1) := by decide +kernel
theorem d_M_good_1 : decode b_M_good 1 = .ok (.invokevirtual 66, 3) := by decide +kernel
theorem d_M_good_4 : decode b_M_good 4 = .ok (.aload_n 0, 1) := by decide +kernel
theorem d_M_good_5 : decode b_M_good 5 = .ok (.getfield 32, 3) := by decide +kernel
theorem d_M_good_8 : decode b_M_good 8 = .ok (.aload_n 0, 1) := by decide +kernel
theorem d_M_good_9 : decode b_M_good 9 = .ok (.getfield 45, 3) := by decide +kernel
theorem d_M_good_12 : decode b_M_good 12 = .ok (.sipush 1023, 3) := by decide +kernel
theorem d_M_good_15 : decode b_M_good 15 = .ok (.iand, 1) := by decide +kernel
theorem d_M_good_16 : decode b_M_good 16 = .ok (.iaload, 1) := by decide +kernel
theorem d_M_good_17 : decode b_M_good 17 = .ok (.aload_n 0, 1) := by decide +kernel
theorem d_M_good_18 : decode b_M_good 18 = .ok (.getfield 42, 3) := by decide +kernel
theorem d_M_good_21 : decode b_M_good 21 = .ok (.if_icmp .gt 7, 3) := by decide +kernel
theorem d_M_good_24 : decode b_M_good 24 = .ok (.iconst 1, 1) := by decide +kernel
theorem d_M_good_25 : decode b_M_good 25 = .ok (.goto 4, 3) := by decide +kernel
theorem d_M_good_28 : decode b_M_good 28 = .ok (.iconst 0, 1) := by decide +kernel
theorem d_M_good_29 : decode b_M_good 29 = .ok (.ireturn, 1) := by decide +kernel
/-- the model's word for: there is a plan with no cost above c -/
def FM (pr : Nat) (N : Nat → Nat → Nat) (mi : Int) (mb : Nat) (c : Int) : Prop := FeasT pr (N 2) (N 3) (EM N) (okm N mi mb c) 34
theorem dp_fm {pr : Nat} {N : Nat → Nat → Nat} {mi : Int} {mb : Nat} {B : Nat → Int} (hpr : pr < 32) (hM : okM pr N) (h : DPP N mi mb 34 B) : ∀ c, -2000 ≤ c → c < 9999 → (B (fullN N) ≤ c ↔ FM pr N mi mb c) := fun c c1 c2 => (h.2 c c1 c2 _ (full_lt hM)).trans ⟨fun z => rch_feas hpr hM z, fun z => feas_rch hpr hM z⟩
set_option maxHeartbeats 4000000 in
set_option maxRecDepth 100000 in
/-- good() -/
theorem c_M_good (l : Launch) (D : va_G) (h : Nat → Nat) (cs : Nat → ClassId) {cp : Nat} {cap : Int} {fu : Nat} {fd mi : Int} {mb : Nat} {N : Nat → Nat → Nat} {B : Nat → Int} {pr : Nat} (hpr : pr < 32) (hM : okM pr N) (hmi : -1 ≤ mi ∧ mi < 5) (hmb : mb ≤ 60) (hcap : -200 ≤ cap ∧ cap ≤ 1000) : CI l y_M_good b_M_good 1 .boolean 3 D (tysM cs) (wM h cs) (cp, cap, fu, fd, mi, mb, N, B) [.ref (h 0)] (fun r u' => (∃ fu' fd' B', u' = (cp, cap, fu', fd', mi, mb, N, B')) ∧ ((r = nI 1 ∧ FM pr N mi mb cap) ∨ (r = nI 0 ∧ ¬ FM pr N mi mb cap))) := by
  refine CI_of ok_M_good (Nat.le_of_ble_eq_true rfl) (cat_all rfl) ?_
  intro K C hret
  have C : Kok D (tysM cs) K b_M_good 1 R_M 3 := C
  have hfl := full_lt hM
  refine j_aload_n C d_M_good_0 (a := h 0) rfl ?_
  refine j_callv C (c_M_solve l D h cs hpr hM hmi hmb) (As := []) (rest := []) ok_M_solve ml_M_66 (by decide) d_M_good_1 (q0 := 0) rfl rfl rfl rfl (Nat.le_of_ble_eq_true rfl) ?_
  intro u' hq
  obtain ⟨fd', B', rfl, hD, hFd⟩ := hq
  have hbf := hD.1 _ hfl
  have hfm := dp_fm hpr hM hD cap (by omega) (by omega)
  refine j_aload_n C d_M_good_4 (a := h 0) rfl ?_
  refine m_get C 9 (v := .ref (h 8)) d_M_good_5 (by decide) fl_M_9 rfl ?_
  refine j_aload_n C d_M_good_8 (a := h 0) rfl ?_
  refine m_get C 10 (v := .int (nI (fullN N))) d_M_good_9 (by decide) fl_M_10 rfl ?_
  refine j_sipush C d_M_good_12 (v := nI 1023) (by decide) ?_
  refine j_iand C d_M_good_15 (z := nI ((fullN N) % 1024)) (nI_and1023 (by omega)) ?_
  rw [Nat.mod_eq_of_lt hfl]
  refine j_iald C 8 7 (f := fun ξ => iI (B' ξ)) (i := fullN N) (v := iI (B' (fullN N))) d_M_good_16 rfl rfl (by omega) (by decide) rfl ?_
  refine j_aload_n C d_M_good_17 (a := h 0) rfl ?_
  refine m_get C 1 (v := .int (iI cap)) d_M_good_18 (by decide) fl_M_1 rfl ?_
  refine j_icmp_gt C d_M_good_21 (tgt := 28) (by decide) (iI_toInt (z := B' (fullN N)) (by omega) (by omega)) (iI_toInt (z := cap) (by omega) (by omega)) (fun c_21 => ?_) (fun c_21 => ?_)
  · refine j_iconst C d_M_good_28 (v := nI 0) (by decide) ?_
    exact hret _ _ _ _ d_M_good_29 rfl ⟨⟨_, fd', B', rfl⟩, Or.inr ⟨rfl, fun z => by have := hfm.mpr z; omega⟩⟩
  · refine j_iconst C d_M_good_24 (v := nI 1) (by decide) ?_
    refine j_goto C d_M_good_25 (tgt := 29) (by decide) ?_
    exact hret _ _ _ _ d_M_good_29 rfl ⟨⟨_, fd', B', rfl⟩, Or.inl ⟨rfl, hfm.mp (by omega)⟩⟩
end
section
/-! ===== what the operations do to the model's arrays ===== -/
def takN (N : Nat → Nat → Nat) (i r p k d : Nat) : Nat → Nat → Nat := va_up (va_up (va_up (va_up (va_up (va_up (va_up N 1 (va_up (N 1) i 1)) 2 (va_up (N 2) i r)) 3 (va_up (N 3) i p)) 4 (va_up (N 4) i k)) 5 (va_up (N 5) i d)) 6 (va_up (N 6) i 1)) 7 (va_up (N 7) i 0)
def srN (N : Nat → Nat → Nat) (i k d w : Nat) : Nat → Nat → Nat := va_up (va_up (va_up N 4 (va_up (N 4) i k)) 5 (va_up (N 5) i d)) 6 (va_up (N 6) i w)
def preN (N : Nat → Nat → Nat) (j f : Nat) : Nat → Nat → Nat := va_up N 7 (va_up (N 7) j f)
def relM (N : Nat → Nat → Nat) (i r : Nat) : Nat → Nat → Nat := va_up N 2 (va_up (N 2) i r)
def helN (N : Nat → Nat → Nat) (i v : Nat) : Nat → Nat → Nat := va_up N 1 (va_up (N 1) i v)
theorem okM_mk {pr : Nat} {N : Nat → Nat → Nat} (h1 : ∀ j, j < 5 → N 1 j = if pr.testBit j = true then 1 else 0) (h2 : ∀ j, j < 5 → N 2 j ≤ 18) (h3 : ∀ j, j < 5 → N 3 j ≤ 3) (h4 : ∀ j, j < 5 → N 4 j ≤ 3) (h5 : ∀ j, j < 5 → N 5 j ≤ 30) (h6 : ∀ j, j < 5 → N 6 j ≤ 5) (h7 : ∀ j, j < 5 → N 7 j ≤ 31) : okM pr N :=
  ⟨h1, fun j hj => ⟨h2 j hj, h3 j hj, h4 j hj, h5 j hj, h6 j hj, by have := h7 j hj; omega⟩⟩
theorem okM_2 {pr : Nat} {N : Nat → Nat → Nat} (h : okM pr N) : ∀ j, j < 5 → N 2 j ≤ 18 := fun j hj => (h.2 j hj).1
theorem okM_3 {pr : Nat} {N : Nat → Nat → Nat} (h : okM pr N) : ∀ j, j < 5 → N 3 j ≤ 3 := fun j hj => (h.2 j hj).2.1
theorem okM_4 {pr : Nat} {N : Nat → Nat → Nat} (h : okM pr N) : ∀ j, j < 5 → N 4 j ≤ 3 := fun j hj => (h.2 j hj).2.2.1
theorem okM_5 {pr : Nat} {N : Nat → Nat → Nat} (h : okM pr N) : ∀ j, j < 5 → N 5 j ≤ 30 := fun j hj => (h.2 j hj).2.2.2.1
theorem okM_6 {pr : Nat} {N : Nat → Nat → Nat} (h : okM pr N) : ∀ j, j < 5 → N 6 j ≤ 5 := fun j hj => (h.2 j hj).2.2.2.2.1
theorem okM_7 {pr : Nat} {N : Nat → Nat → Nat} (h : okM pr N) : ∀ j, j < 5 → N 7 j ≤ 31 := fun j hj => by have := (h.2 j hj).2.2.2.2.2; omega
theorem held_add {pr i : Nat} {f : Nat → Nat} (h : ∀ j, j < 5 → f j = if pr.testBit j = true then 1 else 0) : ∀ j, j < 5 → va_up f i 1 j = if (pr ||| 2 ^ i).testBit j = true then 1 else 0 := by
  intro j hj
  by_cases hc : j = i
  · subst hc
    rw [va_up_self, if_pos ((or_bit _ _ _).mpr (Or.inr rfl))]
  · rw [va_up_ne _ _ hc, h j hj]
    by_cases hb : pr.testBit j = true
    · rw [if_pos hb, if_pos ((or_bit _ _ _).mpr (Or.inl hb))]
    · rw [if_neg hb, if_neg]
      intro z
      rcases (or_bit _ _ _).mp z with q | q
      · exact hb q
      · exact hc q.symm
theorem held_del {pr i : Nat} {f : Nat → Nat} (hp : pr < 32) (h : ∀ j, j < 5 → f j = if pr.testBit j = true then 1 else 0) : ∀ j, j < 5 → va_up f i 0 j = if (dif pr (2 ^ i)).testBit j = true then 1 else 0 := by
  intro j hj
  by_cases hc : j = i
  · subst hc
    rw [va_up_self, if_neg]
    intro z
    have := ((dif_t hp).mp z).2
    rw [one_bit] at this
    simp at this
  · rw [va_up_ne _ _ hc, h j hj]
    have e : (dif pr (2 ^ i)).testBit j = pr.testBit j := by
      rw [dif_bit hp, one_bit]
      simp [Ne.symm hc]
    rw [e]
theorem okM_tak {pr : Nat} {N : Nat → Nat → Nat} {i r p k d : Nat} (h : okM pr N) (hr : r ≤ 18) (hp : p ≤ 3) (hk : k ≤ 3) (hd : d ≤ 30) : okM (pr ||| 2 ^ i) (takN N i r p k d) :=
  okM_mk (N := takN N i r p k d) (held_add (f := N 1) h.1) (up_bd (f := N 2) (okM_2 (N := N) h) hr) (up_bd (f := N 3) (okM_3 (N := N) h) hp) (up_bd (f := N 4) (okM_4 (N := N) h) hk) (up_bd (f := N 5) (okM_5 (N := N) h) hd) (up_bd (f := N 6) (okM_6 (N := N) h) (by omega)) (up_bd (f := N 7) (okM_7 (N := N) h) (by omega))
theorem okM_sr {pr : Nat} {N : Nat → Nat → Nat} {i k d w : Nat} (h : okM pr N) (hk : k ≤ 3) (hd : d ≤ 30) (hw : w ≤ 5) : okM pr (srN N i k d w) :=
  okM_mk (N := srN N i k d w) h.1 (okM_2 (N := N) h) (okM_3 (N := N) h) (up_bd (f := N 4) (okM_4 (N := N) h) hk) (up_bd (f := N 5) (okM_5 (N := N) h) hd) (up_bd (f := N 6) (okM_6 (N := N) h) hw) (okM_7 (N := N) h)
theorem okM_pre {pr : Nat} {N : Nat → Nat → Nat} {i f : Nat} (h : okM pr N) (hf : f < 32) : okM pr (preN N i f) :=
  okM_mk (N := preN N i f) h.1 (okM_2 (N := N) h) (okM_3 (N := N) h) (okM_4 (N := N) h) (okM_5 (N := N) h) (okM_6 (N := N) h) (up_bd (f := N 7) (okM_7 (N := N) h) (by omega))
theorem okM_rel {pr : Nat} {N : Nat → Nat → Nat} {i r : Nat} (h : okM pr N) (hr : r ≤ 18) : okM pr (relM N i r) :=
  okM_mk (N := relM N i r) h.1 (up_bd (f := N 2) (okM_2 (N := N) h) hr) (okM_3 (N := N) h) (okM_4 (N := N) h) (okM_5 (N := N) h) (okM_6 (N := N) h) (okM_7 (N := N) h)
theorem okM_del {pr : Nat} {N : Nat → Nat → Nat} {i : Nat} (hp : pr < 32) (h : okM pr N) : okM (dif pr (2 ^ i)) (helN N i 0) :=
  okM_mk (N := helN N i 0) (held_del (f := N 1) hp h.1) (okM_2 (N := N) h) (okM_3 (N := N) h) (okM_4 (N := N) h) (okM_5 (N := N) h) (okM_6 (N := N) h) (okM_7 (N := N) h)
theorem sr_back (N : Nat → Nat → Nat) (i k d w : Nat) : va_up (va_up (va_up (srN N i k d w) 4 (va_up (va_up (N 4) i k) i (N 4 i))) 5 (va_up (va_up (N 5) i d) i (N 5 i))) 6 (va_up (va_up (N 6) i w) i (N 6 i)) = N := by
  rw [up_up (N 4), up_up (N 5), up_up (N 6), up_same, up_same, up_same]
  funext q
  unfold srN va_up
  by_cases h6 : q = 6
  · subst h6; rfl
  · by_cases h5 : q = 5
    · subst h5; rfl
    · by_cases h4 : q = 4
      · subst h4; rfl
      · simp [h6, h5, h4]
theorem pre_back (N : Nat → Nat → Nat) (j f f' : Nat) (h : f' = N 7 j) : va_up (preN N j f) 7 (va_up (va_up (N 7) j f) j f') = N := by
  subst h
  unfold preN
  rw [up_up, up_up, up_same, up_same]
theorem rel_backM (N : Nat → Nat → Nat) (i v x : Nat) : va_up (relM N i v) 2 (va_up (va_up (N 2) i v) i x) = relM N i x := by
  unfold relM
  rw [up_up, up_up]
theorem rel_idM (N : Nat → Nat → Nat) (i : Nat) : relM N i (N 2 i) = N := by
  unfold relM
  rw [up_same, up_same]
theorem hel_back (N : Nat → Nat → Nat) (i v w : Nat) (h : w = N 1 i) : va_up (helN N i v) 1 (va_up (va_up (N 1) i v) i w) = N := by
  subst h
  unfold helN
  rw [up_up, up_up, up_same, up_same]
/-- the links among the jobs held, as the model has them -/
def EY (pr : Nat) (pre : Nat → Nat) (u v : Nat) : Prop := pr.testBit u = true ∧ pr.testBit v = true ∧ (pre v).testBit u = true
def REQ (E : Nat → Nat → Prop) (j r k s : Nat) : Prop := s < 32 ∧ (∀ v, s.testBit v = true → Rc E j v) ∧ (∀ n v, n ≤ r → v < 5 → Rn E j n v → s.testBit v = true) ∧ ∀ n u v, n ≤ r → v < k → u < 5 → Rn E j n u → E u v → s.testBit v = true
theorem REQ_0 {E : Nat → Nat → Prop} {j : Nat} (hj : j < 5) : REQ E j 0 0 (2 ^ j) := by
  have := REP_0 (E := E) hj
  exact ⟨this.1, this.2.1, this.2.2.1, fun n u v _ hv => by omega⟩
theorem REQ_skip {E : Nat → Nat → Prop} {j r k s : Nat} (h : REQ E j r k s) (hk : ∀ u, u < 5 → s.testBit u = true → ¬ E u k) : REQ E j r (k + 1) s := by
  refine ⟨h.1, h.2.1, h.2.2.1, fun n u v hn hv hu hR hE => ?_⟩
  rcases lt_succ_cases hv with q | rfl
  · exact h.2.2.2 n u v hn q hu hR hE
  · exact absurd hE (hk u hu (h.2.2.1 n u hn hu hR))
theorem REQ_set {E : Nat → Nat → Prop} {j r k s : Nat} (h : REQ E j r k s) (hk : k < 5) (hex : ∃ u, u < 5 ∧ s.testBit u = true ∧ E u k) : REQ E j r (k + 1) (s ||| 2 ^ k) := by
  have hs : ∀ v, s.testBit v = true → (s ||| 2 ^ k).testBit v = true := fun v hv => (or_bit _ _ _).mpr (Or.inl hv)
  refine ⟨or_lt h.1 (pow_lt hk), fun v hv => ?_, fun n v hn hv hR => hs v (h.2.2.1 n v hn hv hR), fun n u v hn hv hu hR hE => ?_⟩
  · rcases (or_bit _ _ _).mp hv with q | rfl
    · exact h.2.1 v q
    · obtain ⟨u, h1, h2, h3⟩ := hex
      exact Rc_step (h.2.1 u h2) h1 h3
  · rcases lt_succ_cases hv with q | rfl
    · exact hs v (h.2.2.2 n u v hn q hu hR hE)
    · exact (or_bit _ _ _).mpr (Or.inr rfl)
theorem REQ_round {E : Nat → Nat → Prop} {j r s : Nat} (hE5 : ∀ u v, E u v → v < 5) (h : REQ E j r 5 s) : REQ E j (r + 1) 0 s := by
  refine ⟨h.1, h.2.1, fun n v hn hv hR => ?_, fun n u v _ hv => by omega⟩
  by_cases hc : n ≤ r
  · exact h.2.2.1 n v hc hv hR
  · have : n = r + 1 := by omega
    subst this
    obtain ⟨u, hu, h1, h2⟩ := hR
    exact h.2.2.2 r u v (Nat.le_refl _) hv hu h1 h2
theorem REQ_end {E : Nat → Nat → Prop} {rk : Nat → Nat} (hE : ∀ i j, E i j → rk i < rk j) (hrk : ∀ j, j < 5 → rk j < 5) {j s : Nat} (h : REQ E j 5 0 s) : ∀ v, v < 5 → (s.testBit v = true ↔ Rc E j v) := by
  intro v hv
  refine ⟨fun q => h.2.1 v q, fun q => ?_⟩
  obtain ⟨n, hn⟩ := q
  have a1 := Rn_rk hE n v hn
  have a2 := hrk v hv
  exact h.2.2.1 n v (by omega) hv hn
theorem and_ex {a b : Nat} (hb : b < 32) (h : a &&& b ≠ 0) : ∃ u, u < 5 ∧ a.testBit u = true ∧ b.testBit u = true := by
  obtain ⟨i, h1, h2⟩ := bit_ne (and_lt32 (a := a) hb) h
  rw [Nat.testBit_and] at h2
  simp at h2
  exact ⟨i, h1, h2.1, h2.2⟩
theorem and_no {a b u : Nat} (h : a &&& b = 0) (hb : b.testBit u = true) : a.testBit u = false := by
  have := congrArg (fun x => Nat.testBit x u) h
  simp only [Nat.testBit_and, Nat.zero_testBit, hb] at this
  simpa using this
theorem RnY_in {pr : Nat} {pre : Nat → Nat} {j : Nat} (hj : pr.testBit j = true) : ∀ n v, Rn (EY pr pre) j n v → pr.testBit v = true := by
  intro n
  cases n with
  | zero => intro v h; have : v = j := h
            rw [this]; exact hj
  | succ n => intro v h
              obtain ⟨u, _, _, h2⟩ := h
              exact h2.2.1
/-- the search for the least free number, from above -/
def TKP (pr m n id : Nat) : Prop := n = sm pr (fun q => if m ≤ q then 1 else 0) ∧ ((id = 5 ∧ ∀ q, m ≤ q → q < 5 → pr.testBit q = true) ∨ (m ≤ id ∧ id < 5 ∧ pr.testBit id = false ∧ ∀ q, m ≤ q → q < id → pr.testBit q = true))
theorem TKP_5 (pr : Nat) : TKP pr 5 0 5 := ⟨by simp [sm], Or.inl ⟨rfl, fun q h1 h2 => by omega⟩⟩
theorem sm_ge {pr m : Nat} (hm : m < 5) : sm pr (fun q => if m ≤ q then 1 else 0) = sm pr (fun q => if m + 1 ≤ q then 1 else 0) + if pr.testBit m = true then 1 else 0 := by
  unfold sm
  rcases c5 hm with rfl | rfl | rfl | rfl | rfl <;> simp <;> omega
theorem TKP_t {pr m n id : Nat} (hm : m < 5) (h : TKP pr (m + 1) n id) (hb : pr.testBit m = true) : TKP pr m (n + 1) id := by
  refine ⟨by rw [sm_ge hm, if_pos hb, h.1], ?_⟩
  rcases h.2 with ⟨h1, h2⟩ | ⟨h1, h2, h3, h4⟩
  · refine Or.inl ⟨h1, fun q a b => ?_⟩
    by_cases hc : q = m
    · rw [hc]; exact hb
    · exact h2 q (by omega) b
  · refine Or.inr ⟨by omega, h2, h3, fun q a b => ?_⟩
    by_cases hc : q = m
    · rw [hc]; exact hb
    · exact h4 q (by omega) b
theorem TKP_f {pr m n id : Nat} (hm : m < 5) (h : TKP pr (m + 1) n id) (hb : pr.testBit m = false) : TKP pr m n m := by
  refine ⟨by rw [sm_ge hm, if_neg (by rw [hb]; decide), h.1]; rfl, Or.inr ⟨Nat.le_refl _, hm, hb, fun q a b => by omega⟩⟩
theorem TKP_bd {pr m n id : Nat} (h : TKP pr m n id) : n ≤ 5 ∧ id ≤ 5 := by
  have h1 := sm_bd (g := pr) (f := fun q => if m ≤ q then 1 else 0) (c := 1) (fun j _ => by show (if _ then 1 else 0) ≤ 1; split <;> omega)
  refine ⟨by rw [h.1]; omega, ?_⟩
  rcases h.2 with ⟨h1, h2⟩ | ⟨h1, h2, h3, h4⟩ <;> omega
end
section
theorem d_M_jobs_0 : decode b_M_jobs 0 = .ok (.iconst 0, 1) := by decide +kernel
theorem d_M_jobs_1 : decode b_M_jobs 1 = .ok (.istore_n 1, 1) := by decide +kernel
theorem d_M_jobs_2 : decode b_M_jobs 2 = .ok (.iconst 0, 1) := by decide +kernel
theorem d_M_jobs_3 : decode b_M_jobs 3 = .ok (.istore_n 2, 1) := by decide +kernel
theorem d_M_jobs_4 : decode b_M_jobs 4 = .ok (.iload_n 2, 1) := by decide +kernel
theorem d_M_jobs_5 : decode b_M_jobs 5 = .ok (.iconst 5, 1) := by decide +kernel
theorem d_M_jobs_6 : decode b_M_jobs 6 = .ok (.if_icmp .ge 28, 3) := by decide +kernel
theorem d_M_jobs_9 : decode b_M_jobs 9 = .ok (.iload_n 1, 1) := by decide +kernel
theorem d_M_jobs_10 : decode b_M_jobs 10 = .ok (.aload_n 0, 1) := by decide +kernel
theorem d_M_jobs_11 : decode b_M_jobs 11 = .ok (.getfield 7, 3) := by decide +kernel
theorem d_M_jobs_14 : decode b_M_jobs 14 = .ok (.iload_n 2, 1) := by decide +kernel
theorem d_M_jobs_15 : decode b_M_jobs 15 = .ok (.baload, 1) := by decide +kernel
theorem d_M_jobs_16 : decode b_M_jobs 16 = .ok (.ifCond .eq 9, 3) := by decide +kernel
theorem d_M_jobs_19 : decode b_M_jobs 19 = .ok (.iconst 1, 1) := by decide +kernel
theorem d_M_jobs_20 : decode b_M_jobs 20 = .ok (.iload_n 2, 1) := by decide +kernel
theorem d_M_jobs_21 : decode b_M_jobs 21 = .ok (.ishl, 1) := by decide +kernel
theorem d_M_jobs_22 : decode b_M_jobs 22 = .ok (.goto 4, 3) := by decide +kernel
theorem d_M_jobs_25 : decode b_M_jobs 25 = .ok (.iconst 0, 1) := by decide +kernel
theorem d_M_jobs_26 : decode b_M_jobs 26 = .ok (.ior, 1) := by decide +kernel
theorem d_M_jobs_27 : decode b_M_jobs 27 = .ok (.istore_n 1, 1) := by decide +kernel
theorem d_M_jobs_28 : decode b_M_jobs 28 = .ok (.iinc 2 1, 3) := by decide +kernel
theorem d_M_jobs_31 : decode b_M_jobs 31 = .ok (.goto (-27), 3) := by decide +kernel
theorem d_M_jobs_34 : decode b_M_jobs 34 = .ok (.iload_n 1, 1) := by decide +kernel
theorem d_M_jobs_35 : decode b_M_jobs 35 = .ok (.ireturn, 1) := by decide +kernel
theorem JB_set {pr a j : Nat} (h : ∀ q, a.testBit q = (decide (q < j) && pr.testBit q)) (hb : pr.testBit j = true) : ∀ q, (a ||| 2 ^ j).testBit q = (decide (q < j + 1) && pr.testBit q) := by
  intro q
  rw [Nat.testBit_or, one_bit, h q]
  by_cases hc : j = q
  · subst hc; simp [hb]
  · by_cases hl : q < j
    · simp [hl, hc, show q < j + 1 by omega]
    · simp [hl, hc, show ¬ q < j + 1 by omega]
theorem JB_skip {pr a j : Nat} (h : ∀ q, a.testBit q = (decide (q < j) && pr.testBit q)) (hb : pr.testBit j = false) : ∀ q, (a ||| 0).testBit q = (decide (q < j + 1) && pr.testBit q) := by
  intro q
  rw [Nat.or_zero, h q]
  by_cases hc : q = j
  · subst hc; simp [hb]
  · by_cases hl : q < j
    · simp [hl, show q < j + 1 by omega]
    · simp [hl, show ¬ q < j + 1 by omega]
theorem JB_end {pr a : Nat} (hp : pr < 32) (h : ∀ q, a.testBit q = (decide (q < 5) && pr.testBit q)) : a = pr := by
  apply Nat.eq_of_testBit_eq
  intro q
  rw [h q]
  by_cases hl : q < 5
  · simp [hl]
  · simp [hl, hi_bit hp (show 5 ≤ q by omega)]
set_option maxHeartbeats 4000000 in
set_option maxRecDepth 100000 in
theorem c_M_jobs (l : Launch) (D : va_G) (h : Nat → Nat) (cs : Nat → ClassId) {cp : Nat} {cap : Int} {fu : Nat} {fd mi : Int} {mb : Nat} {N : Nat → Nat → Nat} {B : Nat → Int} {pr : Nat} (hpr : pr < 32) (hM : okM pr N) : CI l y_M_jobs b_M_jobs 3 .int 0 D (tysM cs) (wM h cs) (cp, cap, fu, fd, mi, mb, N, B) [.ref (h 0)] (fun r u' => u' = (cp, cap, fu, fd, mi, mb, N, B) ∧ r = nI pr) := by
  refine CI_of ok_M_jobs (Nat.le_of_ble_eq_true rfl) (cat_all rfl) ?_
  intro K C hret
  have C : Kok D (tysM cs) K b_M_jobs 3 R_M 0 := C
  refine j_iconst C d_M_jobs_0 (v := nI 0) (by decide) ?_
  refine j_istore_n C d_M_jobs_1 (Nat.le_of_ble_eq_true rfl) (Nat.le_of_ble_eq_true rfl) (L' := [.ref (h 0), .int (nI 0)]) rfl ?_
  refine j_iconst C d_M_jobs_2 (v := nI 0) (by decide) ?_
  refine j_istore_n C d_M_jobs_3 (Nat.le_of_ble_eq_true rfl) (Nat.le_of_ble_eq_true rfl) (L' := [.ref (h 0), .int (nI 0), .int (nI 0)]) rfl ?_
  have key : ∀ j, j ≤ 5 → ∀ a, (∀ q, a.testBit q = (decide (q < j) && pr.testBit q)) → J l D K (wM h cs) (cp, cap, fu, fd, mi, mb, N, B) 4 [.ref (h 0), .int (nI a), .int (nI j)] [] := by
    refine up_ind 5 ?_
    intro j hj ih a hF
    refine j_iload_n C d_M_jobs_4 (x := nI j) rfl ?_
    refine j_iconst C d_M_jobs_5 (v := nI 5) (by decide) ?_
    refine j_icmp_ge C d_M_jobs_6 (tgt := 34) (by decide) (tI j (by omega)) (tI 5 (by decide)) (fun c_6 => ?_) (fun c_6 => ?_)
    · obtain rfl : j = 5 := by omega
      obtain rfl := JB_end hpr hF
      refine j_iload_n C d_M_jobs_34 (x := nI a) rfl ?_
      exact hret _ _ _ _ d_M_jobs_35 rfl ⟨rfl, rfl⟩
    · refine j_iload_n C d_M_jobs_9 (x := nI a) rfl ?_
      refine j_aload_n C d_M_jobs_10 (a := h 0) rfl ?_
      refine m_get C 2 (v := .ref (h 1)) d_M_jobs_11 (by decide) fl_M_2 rfl ?_
      refine j_iload_n C d_M_jobs_14 (x := nI j) rfl ?_
      refine j_zald C 1 0 (f := fun ξ => nI ((N 1) ξ)) (i := j) (v := nI (N 1 j)) d_M_jobs_15 rfl rfl (by omega) (by decide) rfl ?_
      have q_15 := held_1 hM (show j < 5 by omega)
      refine j_if_eq C d_M_jobs_16 (tgt := 25) (by decide) (tI (N 1 j) (by omega)) (fun c_16 => ?_) (fun c_16 => ?_)
      · have hnew := JB_skip hF (held_f hM (by omega) c_16)
        refine j_iconst C d_M_jobs_25 (v := nI 0) (by decide) ?_
        refine j_ior C d_M_jobs_26 (z := nI (a ||| 0)) (nI_or _ _) ?_
        refine j_istore_n C d_M_jobs_27 (Nat.le_of_ble_eq_true rfl) (Nat.le_of_ble_eq_true rfl) (L' := [.ref (h 0), .int (nI (a ||| 0)), .int (nI j)]) rfl ?_
        refine j_iinc C d_M_jobs_28 (Nat.le_of_ble_eq_true rfl) (x := nI j) (v := nI (j + 1)) rfl (nI_add _ _) (L' := [.ref (h 0), .int (nI (a ||| 0)), .int (nI (j + 1))]) rfl ?_
        refine j_goto C d_M_jobs_31 (tgt := 4) (by decide) ?_
        exact ih (by omega) _ hnew
      · have hnew := JB_set hF (held_t hM (by omega) c_16)
        refine j_iconst C d_M_jobs_19 (v := nI 1) (by decide) ?_
        refine j_iload_n C d_M_jobs_20 (x := nI j) rfl ?_
        refine j_ishl C d_M_jobs_21 (z := nI (2 ^ j)) (nI_shl1 (by omega)) ?_
        refine j_goto C d_M_jobs_22 (tgt := 26) (by decide) ?_
        refine j_ior C d_M_jobs_26 (z := nI (a ||| (2 ^ j))) (nI_or _ _) ?_
        refine j_istore_n C d_M_jobs_27 (Nat.le_of_ble_eq_true rfl) (Nat.le_of_ble_eq_true rfl) (L' := [.ref (h 0), .int (nI (a ||| (2 ^ j))), .int (nI j)]) rfl ?_
        refine j_iinc C d_M_jobs_28 (Nat.le_of_ble_eq_true rfl) (x := nI j) (v := nI (j + 1)) rfl (nI_add _ _) (L' := [.ref (h 0), .int (nI (a ||| (2 ^ j))), .int (nI (j + 1))]) rfl ?_
        refine j_goto C d_M_jobs_31 (tgt := 4) (by decide) ?_
        exact ih (by omega) _ hnew
  exact key 0 (by omega) 0 (fun q => by simp)
def lkm (pr : Nat) (pre : Nat → Nat) (x y : Int32) : Prop := ∃ i j, x = nI i ∧ y = nI j ∧ i < 5 ∧ j < 5 ∧ pr.testBit i = true ∧ pr.testBit j = true ∧ (pre j).testBit i = true
theorem lkm_n {pr : Nat} {pre : Nat → Nat} {i j : Nat} (hi : i < 5) (hj : j < 5) (h : lkm pr pre (nI i) (nI j)) : (pre j).testBit i = true := by
  obtain ⟨a, b, h1, h2, h3, h4, h5, h6, h7⟩ := h
  have := nI_inj (by omega) (by omega) h1
  have := nI_inj (by omega) (by omega) h2
  subst_vars
  exact h7
theorem d_M_linked_0 : decode b_M_linked 0 = .ok (.aload_n 0, 1) := by decide +kernel
theorem d_M_linked_1 : decode b_M_linked 1 = .ok (.iload_n 1, 1) := by decide +kernel
theorem d_M_linked_2 : decode b_M_linked 2 = .ok (.invokevirtual 77, 3) := by decide +kernel
theorem d_M_linked_5 : decode b_M_linked 5 = .ok (.ifCond .eq 29, 3) := by decide +kernel
theorem d_M_linked_8 : decode b_M_linked 8 = .ok (.aload_n 0, 1) := by decide +kernel
theorem d_M_linked_9 : decode b_M_linked 9 = .ok (.iload_n 2, 1) := by decide +kernel
theorem d_M_linked_10 : decode b_M_linked 10 = .ok (.invokevirtual 77, 3) := by decide +kernel
theorem d_M_linked_13 : decode b_M_linked 13 = .ok (.ifCond .eq 21, 3) := by decide +kernel
theorem d_M_linked_16 : decode b_M_linked 16 = .ok (.aload_n 0, 1) := by decide +kernel
theorem d_M_linked_17 : decode b_M_linked 17 = .ok (.getfield 29, 3) := by decide +kernel
theorem d_M_linked_20 : decode b_M_linked 20 = .ok (.iload_n 2, 1) := by decide +kernel
theorem d_M_linked_21 : decode b_M_linked 21 = .ok (.iaload, 1) := by decide +kernel
theorem d_M_linked_22 : decode b_M_linked 22 = .ok (.iload_n 1, 1) := by decide +kernel
theorem d_M_linked_23 : decode b_M_linked 23 = .ok (.ishr, 1) := by decide +kernel
theorem d_M_linked_24 : decode b_M_linked 24 = .ok (.iconst 1, 1) := by decide +kernel
theorem d_M_linked_25 : decode b_M_linked 25 = .ok (.iand, 1) := by decide +kernel
theorem d_M_linked_26 : decode b_M_linked 26 = .ok (.iconst 1, 1) := by decide +kernel
theorem d_M_linked_27 : decode b_M_linked 27 = .ok (.if_icmp .ne 7, 3) := by decide +kernel
theorem d_M_linked_30 : decode b_M_linked 30 = .ok (.iconst 1, 1) := by decide +kernel
theorem d_M_linked_31 : decode b_M_linked 31 = .ok (.goto 4, 3) := by decide +kernel
theorem d_M_linked_34 : decode b_M_linked 34 = .ok (.iconst 0, 1) := by decide +kernel
theorem d_M_linked_35 : decode b_M_linked 35 = .ok (.ireturn, 1) := by decide +kernel
set_option maxHeartbeats 4000000 in
set_option maxRecDepth 100000 in
/-- linked(x, y) -/
theorem c_M_linked (l : Launch) (D : va_G) (h : Nat → Nat) (cs : Nat → ClassId) {cp : Nat} {cap : Int} {fu : Nat} {fd mi : Int} {mb : Nat} {N : Nat → Nat → Nat} {B : Nat → Int} {pr : Nat} (hpr : pr < 32) (hM : okM pr N) (x y : Int32) : CI l y_M_linked b_M_linked 3 .boolean 1 D (tysM cs) (wM h cs) (cp, cap, fu, fd, mi, mb, N, B) [.ref (h 0), .int x, .int y] (fun r u' => u' = (cp, cap, fu, fd, mi, mb, N, B) ∧ ((r = nI 1 ∧ lkm pr (N 7) x y) ∨ (r = nI 0 ∧ ¬ lkm pr (N 7) x y))) := by
  refine CI_of ok_M_linked (Nat.le_of_ble_eq_true rfl) (cat_all rfl) ?_
  intro K C hret
  have C : Kok D (tysM cs) K b_M_linked 3 R_M 1 := C
  refine j_aload_n C d_M_linked_0 (a := h 0) rfl ?_
  refine j_iload_n C d_M_linked_1 (x := x) rfl ?_
  refine j_calli C (c_M_there l D h cs hpr hM x) (As := [.int x]) (rest := []) ok_M_there ml_M_77 (by decide) d_M_linked_2 (q0 := 0) rfl rfl rfl rfl (Nat.le_of_ble_eq_true rfl) ?_
  intro r_2 u' hp
  obtain ⟨rfl, hp_2⟩ := hp
  refine j_if_eq C d_M_linked_5 (tgt := 34) (by decide) (rfl) (fun c_5 => ?_) (fun c_5 => ?_)
  · have t_5 := bool_f hp_2 c_5
    refine j_iconst C d_M_linked_34 (v := nI 0) (by decide) ?_
    exact hret _ _ _ _ d_M_linked_35 rfl ⟨rfl, Or.inr ⟨rfl, fun q => by first | (have := lkm_n (by omega) (by omega) q; rw [b_27] at this; cases this; done) | (obtain ⟨i, j, e1, e2, h1, h2, h3, h4, h5⟩ := q; exact t_13 ⟨j, h2, e2, h4⟩) | (obtain ⟨i, j, e1, e2, h1, h2, h3, h4, h5⟩ := q; exact t_5 ⟨i, h1, e1, h3⟩)⟩⟩
  · have t_5 := bool_t hp_2 c_5
    refine j_aload_n C d_M_linked_8 (a := h 0) rfl ?_
    refine j_iload_n C d_M_linked_9 (x := y) rfl ?_
    refine j_calli C (c_M_there l D h cs hpr hM y) (As := [.int y]) (rest := []) ok_M_there ml_M_77 (by decide) d_M_linked_10 (q0 := 0) rfl rfl rfl rfl (Nat.le_of_ble_eq_true rfl) ?_
    intro r_10 u' hp
    obtain ⟨rfl, hp_10⟩ := hp
    refine j_if_eq C d_M_linked_13 (tgt := 34) (by decide) (rfl) (fun c_13 => ?_) (fun c_13 => ?_)
    · have t_13 := bool_f hp_10 c_13
      refine j_iconst C d_M_linked_34 (v := nI 0) (by decide) ?_
      exact hret _ _ _ _ d_M_linked_35 rfl ⟨rfl, Or.inr ⟨rfl, fun q => by first | (have := lkm_n (by omega) (by omega) q; rw [b_27] at this; cases this; done) | (obtain ⟨i, j, e1, e2, h1, h2, h3, h4, h5⟩ := q; exact t_13 ⟨j, h2, e2, h4⟩) | (obtain ⟨i, j, e1, e2, h1, h2, h3, h4, h5⟩ := q; exact t_5 ⟨i, h1, e1, h3⟩)⟩⟩
    · have t_13 := bool_t hp_10 c_13
      obtain ⟨i, hi, rfl, hbi⟩ := t_5
      obtain ⟨j, hj, rfl, hbj⟩ := t_13
      have h7 := okM_7 hM j hj
      refine j_aload_n C d_M_linked_16 (a := h 0) rfl ?_
      refine m_get C 8 (v := .ref (h 7)) d_M_linked_17 (by decide) fl_M_8 rfl ?_
      refine j_iload_n C d_M_linked_20 (x := nI j) rfl ?_
      refine j_iald C 7 6 (f := fun ξ => nI ((N 7) ξ)) (i := j) (v := nI (N 7 j)) d_M_linked_21 rfl rfl (by omega) (by decide) rfl ?_
      refine j_iload_n C d_M_linked_22 (x := nI i) rfl ?_
      refine j_ishr C d_M_linked_23 (z := nI ((N 7 j) / 2 ^ i)) (nI_shr (by omega) (by omega)) ?_
      refine j_iconst C d_M_linked_24 (v := nI 1) (by decide) ?_
      refine j_iand C d_M_linked_25 (z := nI (tb (N 7 j) i)) (nI_bit (by omega)) ?_
      refine j_iconst C d_M_linked_26 (v := nI 1) (by decide) ?_
      refine j_icmp_ne C d_M_linked_27 (tgt := 34) (by decide) (tI _ (tb_lt _ _)) (tI 1 (by decide)) (fun c_27 => ?_) (fun c_27 => ?_)
      · have b_27 : Nat.testBit (N 7 j) i = false := tb_f1 c_27
        refine j_iconst C d_M_linked_34 (v := nI 0) (by decide) ?_
        exact hret _ _ _ _ d_M_linked_35 rfl ⟨rfl, Or.inr ⟨rfl, fun q => by first | (have := lkm_n (by omega) (by omega) q; rw [b_27] at this; cases this; done) | (obtain ⟨i, j, e1, e2, h1, h2, h3, h4, h5⟩ := q; exact t_13 ⟨j, h2, e2, h4⟩) | (obtain ⟨i, j, e1, e2, h1, h2, h3, h4, h5⟩ := q; exact t_5 ⟨i, h1, e1, h3⟩)⟩⟩
      · have b_27 : Nat.testBit (N 7 j) i = true := tb_t1 c_27
        refine j_iconst C d_M_linked_30 (v := nI 1) (by decide) ?_
        refine j_goto C d_M_linked_31 (tgt := 35) (by decide) ?_
        exact hret _ _ _ _ d_M_linked_35 rfl ⟨rfl, Or.inl ⟨rfl, i, j, rfl, rfl, hi, hj, hbi, hbj, b_27⟩⟩
theorem d_M_unlink_0 : decode b_M_unlink 0 = .ok (.aload_n 0, 1) := by decide +kernel
theorem d_M_unlink_1 : decode b_M_unlink 1 = .ok (.iload_n 1, 1) := by decide +kernel
theorem d_M_unlink_2 : decode b_M_unlink 2 = .ok (.iload_n 2, 1) := by decide +kernel
theorem d_M_unlink_3 : decode b_M_unlink 3 = .ok (.invokevirtual 81, 3) := by decide +kernel
theorem d_M_unlink_6 : decode b_M_unlink 6 = .ok (.ifCond .ne 5, 3) := by decide +kernel
theorem d_M_unlink_9 : decode b_M_unlink 9 = .ok (.iconst 0, 1) := by decide +kernel
theorem d_M_unlink_10 : decode b_M_unlink 10 = .ok (.ireturn, 1) := by decide +kernel
theorem d_M_unlink_11 : decode b_M_unlink 11 = .ok (.aload_n 0, 1) := by decide +kernel
theorem d_M_unlink_12 : decode b_M_unlink 12 = .ok (.getfield 29, 3) := by decide +kernel
theorem d_M_unlink_15 : decode b_M_unlink 15 = .ok (.iload_n 2, 1) := by decide +kernel
theorem d_M_unlink_16 : decode b_M_unlink 16 = .ok (.aload_n 0, 1) := by decide +kernel
theorem d_M_unlink_17 : decode b_M_unlink 17 = .ok (.getfield 29, 3) := by decide +kernel
theorem d_M_unlink_20 : decode b_M_unlink 20 = .ok (.iload_n 2, 1) := by decide +kernel
theorem d_M_unlink_21 : decode b_M_unlink 21 = .ok (.iaload, 1) := by decide +kernel
theorem d_M_unlink_22 : decode b_M_unlink 22 = .ok (.iconst 1, 1) := by decide +kernel
theorem d_M_unlink_23 : decode b_M_unlink 23 = .ok (.iload_n 1, 1) := by decide +kernel
theorem d_M_unlink_24 : decode b_M_unlink 24 = .ok (.ishl, 1) := by decide +kernel
theorem d_M_unlink_25 : decode b_M_unlink 25 = .ok (.iconst (-1), 1) := by decide +kernel
theorem d_M_unlink_26 : decode b_M_unlink 26 = .ok (.ixor, 1) := by decide +kernel
theorem d_M_unlink_27 : decode b_M_unlink 27 = .ok (.iand, 1) := by decide +kernel
theorem d_M_unlink_28 : decode b_M_unlink 28 = .ok (.iastore, 1) := by decide +kernel
theorem d_M_unlink_29 : decode b_M_unlink 29 = .ok (.iconst 1, 1) := by decide +kernel
theorem d_M_unlink_30 : decode b_M_unlink 30 = .ok (.ireturn, 1) := by decide +kernel
set_option maxHeartbeats 4000000 in
set_option maxRecDepth 100000 in
/-- unlink(x, y) -/
theorem c_M_unlink (l : Launch) (D : va_G) (h : Nat → Nat) (cs : Nat → ClassId) {cp : Nat} {cap : Int} {fu : Nat} {fd mi : Int} {mb : Nat} {N : Nat → Nat → Nat} {B : Nat → Int} {pr : Nat} (hpr : pr < 32) (hM : okM pr N) (x y : Int32) : CI l y_M_unlink b_M_unlink 3 .boolean 2 D (tysM cs) (wM h cs) (cp, cap, fu, fd, mi, mb, N, B) [.ref (h 0), .int x, .int y] (fun r u' => (r = nI 0 ∧ u' = (cp, cap, fu, fd, mi, mb, N, B) ∧ ¬ lkm pr (N 7) x y) ∨ ∃ i j, x = nI i ∧ y = nI j ∧ i < 5 ∧ j < 5 ∧ pr.testBit i = true ∧ pr.testBit j = true ∧ (N 7 j).testBit i = true ∧ r = nI 1 ∧ u' = (cp, cap, fu, fd, mi, mb, preN N j (dif (N 7 j) (2 ^ i)), B)) := by
  refine CI_of ok_M_unlink (Nat.le_of_ble_eq_true rfl) (cat_all rfl) ?_
  intro K C hret
  have C : Kok D (tysM cs) K b_M_unlink 3 R_M 2 := C
  refine j_aload_n C d_M_unlink_0 (a := h 0) rfl ?_
  refine j_iload_n C d_M_unlink_1 (x := x) rfl ?_
  refine j_iload_n C d_M_unlink_2 (x := y) rfl ?_
  refine j_calli C (c_M_linked l D h cs hpr hM x y) (As := [.int x, .int y]) (rest := []) ok_M_linked ml_M_81 (by decide) d_M_unlink_3 (q0 := 0) rfl rfl rfl rfl (Nat.le_of_ble_eq_true rfl) ?_
  intro r_3 u' hp
  obtain ⟨rfl, hp_3⟩ := hp
  refine j_if_ne C d_M_unlink_6 (tgt := 11) (by decide) (rfl) (fun c_6 => ?_) (fun c_6 => ?_)
  · have t_6 := bool_t hp_3 c_6
    obtain ⟨i, j, rfl, rfl, hi, hj, hbi, hbj, hbit⟩ := t_6
    have h7 := okM_7 hM j hj
    have hp2 := pow_lt hi
    refine j_aload_n C d_M_unlink_11 (a := h 0) rfl ?_
    refine m_get C 8 (v := .ref (h 7)) d_M_unlink_12 (by decide) fl_M_8 rfl ?_
    refine j_iload_n C d_M_unlink_15 (x := nI j) rfl ?_
    refine j_aload_n C d_M_unlink_16 (a := h 0) rfl ?_
    refine m_get C 8 (v := .ref (h 7)) d_M_unlink_17 (by decide) fl_M_8 rfl ?_
    refine j_iload_n C d_M_unlink_20 (x := nI j) rfl ?_
    refine j_iald C 7 6 (f := fun ξ => nI ((N 7) ξ)) (i := j) (v := nI (N 7 j)) d_M_unlink_21 rfl rfl (by omega) (by decide) rfl ?_
    refine j_iconst C d_M_unlink_22 (v := nI 1) (by decide) ?_
    refine j_iload_n C d_M_unlink_23 (x := nI i) rfl ?_
    refine j_ishl C d_M_unlink_24 (z := nI (2 ^ i)) (nI_shl1 (by omega)) ?_
    refine j_iconst C d_M_unlink_25 (v := (-1)) (by decide) ?_
    refine j_ixor C d_M_unlink_26 (z := nI (2 ^ i) ^^^ (-1)) (rfl) ?_
    refine j_iand C d_M_unlink_27 (z := nI (dif (N 7 j) (2 ^ i))) (nI_dif (by omega) (by omega)) ?_
    refine j_iast C 7 6 nI (g := N 7) (i := j) (v := dif (N 7 j) (2 ^ i)) (u' := (cp, cap, fu, fd, mi, mb, va_up N 7 (va_up (N 7) j (dif (N 7 j) (2 ^ i))), B)) d_M_unlink_28 rfl rfl (by omega) (by decide) rfl ?_
    refine j_iconst C d_M_unlink_29 (v := nI 1) (by decide) ?_
    exact hret _ _ _ _ d_M_unlink_30 rfl (Or.inr ⟨i, j, rfl, rfl, hi, hj, hbi, hbj, hbit, rfl, rfl⟩)
  · have t_6 := bool_f hp_3 c_6
    refine j_iconst C d_M_unlink_9 (v := nI 0) (by decide) ?_
    exact hret _ _ _ _ d_M_unlink_10 rfl (Or.inl ⟨rfl, rfl, t_6⟩)
theorem d_M_costAt_0 : decode b_M_costAt 0 = .ok (.aload_n 0, 1) := by decide +kernel
theorem d_M_costAt_1 : decode b_M_costAt 1 = .ok (.iload_n 1, 1) := by decide +kernel
theorem d_M_costAt_2 : decode b_M_costAt 2 = .ok (.invokevirtual 77, 3) := by decide +kernel
theorem d_M_costAt_5 : decode b_M_costAt 5 = .ok (.ifCond .eq 22, 3) := by decide +kernel
theorem d_M_costAt_8 : decode b_M_costAt 8 = .ok (.iload_n 2, 1) := by decide +kernel
theorem d_M_costAt_9 : decode b_M_costAt 9 = .ok (.ifCond .lt 18, 3) := by decide +kernel
theorem d_M_costAt_12 : decode b_M_costAt 12 = .ok (.iload_n 2, 1) := by decide +kernel
theorem d_M_costAt_13 : decode b_M_costAt 13 = .ok (.bipush 60, 2) := by decide +kernel
theorem d_M_costAt_15 : decode b_M_costAt 15 = .ok (.if_icmp .gt 12, 3) := by decide +kernel
theorem d_M_costAt_18 : decode b_M_costAt 18 = .ok (.aload_n 0, 1) := by decide +kernel
theorem d_M_costAt_19 : decode b_M_costAt 19 = .ok (.iload_n 1, 1) := by decide +kernel
theorem d_M_costAt_20 : decode b_M_costAt 20 = .ok (.iload_n 2, 1) := by decide +kernel
theorem d_M_costAt_21 : decode b_M_costAt 21 = .ok (.invokevirtual 62, 3) := by decide +kernel
theorem d_M_costAt_24 : decode b_M_costAt 24 = .ok (.goto 6, 3) := by decide +kernel
theorem d_M_costAt_27 : decode b_M_costAt 27 = .ok (.sipush (-2000), 3) := by decide +kernel
theorem d_M_costAt_30 : decode b_M_costAt 30 = .ok (.ireturn, 1) := by decide +kernel
set_option maxHeartbeats 4000000 in
set_option maxRecDepth 100000 in
/-- costAt(x, y) -/
theorem c_M_costAt (l : Launch) (D : va_G) (h : Nat → Nat) (cs : Nat → ClassId) {cp : Nat} {cap : Int} {fu : Nat} {fd mi : Int} {mb : Nat} {N : Nat → Nat → Nat} {B : Nat → Int} {pr : Nat} (hpr : pr < 32) (hM : okM pr N) (x y : Int32) : CI l y_M_costAt b_M_costAt 3 .int 1 D (tysM cs) (wM h cs) (cp, cap, fu, fd, mi, mb, N, B) [.ref (h 0), .int x, .int y] (fun r u' => u' = (cp, cap, fu, fd, mi, mb, N, B) ∧ ((r = (-2000) ∧ ¬ (hld 5 pr x ∧ 0 ≤ y.toInt ∧ y.toInt ≤ 60)) ∨ ∃ i t, x = nI i ∧ y = nI t ∧ i < 5 ∧ pr.testBit i = true ∧ t ≤ 60 ∧ r = iI (cst (N 4 i) (N 5 i) (N 6 i) t))) := by
  refine CI_of ok_M_costAt (Nat.le_of_ble_eq_true rfl) (cat_all rfl) ?_
  intro K C hret
  have C : Kok D (tysM cs) K b_M_costAt 3 R_M 1 := C
  refine j_aload_n C d_M_costAt_0 (a := h 0) rfl ?_
  refine j_iload_n C d_M_costAt_1 (x := x) rfl ?_
  refine j_calli C (c_M_there l D h cs hpr hM x) (As := [.int x]) (rest := []) ok_M_there ml_M_77 (by decide) d_M_costAt_2 (q0 := 0) rfl rfl rfl rfl (Nat.le_of_ble_eq_true rfl) ?_
  intro r_2 u' hp
  obtain ⟨rfl, hp_2⟩ := hp
  refine j_if_eq C d_M_costAt_5 (tgt := 27) (by decide) (rfl) (fun c_5 => ?_) (fun c_5 => ?_)
  · have t_5 := bool_f hp_2 c_5
    refine j_sipush C d_M_costAt_27 (v := (-2000)) (by decide) ?_
    exact hret _ _ _ _ d_M_costAt_30 rfl ⟨rfl, Or.inl ⟨rfl, fun q => by first | exact t_5 q.1 | omega⟩⟩
  · have t_5 := bool_t hp_2 c_5
    refine j_iload_n C d_M_costAt_8 (x := y) rfl ?_
    refine j_if_lt C d_M_costAt_9 (tgt := 27) (by decide) (rfl) (fun c_9 => ?_) (fun c_9 => ?_)
    · refine j_sipush C d_M_costAt_27 (v := (-2000)) (by decide) ?_
      exact hret _ _ _ _ d_M_costAt_30 rfl ⟨rfl, Or.inl ⟨rfl, fun q => by first | exact t_5 q.1 | omega⟩⟩
    · refine j_iload_n C d_M_costAt_12 (x := y) rfl ?_
      refine j_bipush C d_M_costAt_13 (v := nI 60) (by decide) ?_
      refine j_icmp_gt C d_M_costAt_15 (tgt := 27) (by decide) (rfl) (tI 60 (by decide)) (fun c_15 => ?_) (fun c_15 => ?_)
      · refine j_sipush C d_M_costAt_27 (v := (-2000)) (by decide) ?_
        exact hret _ _ _ _ d_M_costAt_30 rfl ⟨rfl, Or.inl ⟨rfl, fun q => by first | exact t_5 q.1 | omega⟩⟩
      · obtain ⟨i, hi, rfl, hbi⟩ := t_5
        obtain ⟨t, ht, rfl⟩ := of_rng (n := 61) c_9 (by omega)
        refine j_aload_n C d_M_costAt_18 (a := h 0) rfl ?_
        refine j_iload_n C d_M_costAt_19 (x := nI i) rfl ?_
        refine j_iload_n C d_M_costAt_20 (x := nI t) rfl ?_
        refine j_calli C (c_M_cost l D h cs hpr hM (i := i) (t := t) (by omega) (by omega)) (As := [.int (nI i), .int (nI t)]) (rest := []) ok_M_cost ml_M_62 (by decide) d_M_costAt_21 (q0 := 0) rfl rfl rfl rfl (Nat.le_of_ble_eq_true rfl) ?_
        intro r u' hp
        obtain ⟨rfl, rfl⟩ := hp
        refine j_goto C d_M_costAt_24 (tgt := 30) (by decide) ?_
        exact hret _ _ _ _ d_M_costAt_30 rfl ⟨rfl, Or.inr ⟨i, t, rfl, rfl, hi, hbi, by omega, rfl⟩⟩
theorem d_M_leads_0 : decode b_M_leads 0 = .ok (.iconst 1, 1) := by decide +kernel
theorem d_M_leads_1 : decode b_M_leads 1 = .ok (.iload_n 1, 1) := by decide +kernel
theorem d_M_leads_2 : decode b_M_leads 2 = .ok (.ishl, 1) := by decide +kernel
theorem d_M_leads_3 : decode b_M_leads 3 = .ok (.istore_n 3, 1) := by decide +kernel
theorem d_M_leads_4 : decode b_M_leads 4 = .ok (.iconst 0, 1) := by decide +kernel
theorem d_M_leads_5 : decode b_M_leads 5 = .ok (.istore 4, 2) := by decide +kernel
theorem d_M_leads_7 : decode b_M_leads 7 = .ok (.iload 4, 2) := by decide +kernel
theorem d_M_leads_9 : decode b_M_leads 9 = .ok (.iconst 5, 1) := by decide +kernel
theorem d_M_leads_10 : decode b_M_leads 10 = .ok (.if_icmp .ge 53, 3) := by decide +kernel
theorem d_M_leads_13 : decode b_M_leads 13 = .ok (.iconst 0, 1) := by decide +kernel
theorem d_M_leads_14 : decode b_M_leads 14 = .ok (.istore 5, 2) := by decide +kernel
theorem d_M_leads_16 : decode b_M_leads 16 = .ok (.iload 5, 2) := by decide +kernel
theorem d_M_leads_18 : decode b_M_leads 18 = .ok (.iconst 5, 1) := by decide +kernel
theorem d_M_leads_19 : decode b_M_leads 19 = .ok (.if_icmp .ge 38, 3) := by decide +kernel
theorem d_M_leads_22 : decode b_M_leads 22 = .ok (.aload_n 0, 1) := by decide +kernel
theorem d_M_leads_23 : decode b_M_leads 23 = .ok (.getfield 7, 3) := by decide +kernel
theorem d_M_leads_26 : decode b_M_leads 26 = .ok (.iload 5, 2) := by decide +kernel
theorem d_M_leads_28 : decode b_M_leads 28 = .ok (.baload, 1) := by decide +kernel
theorem d_M_leads_29 : decode b_M_leads 29 = .ok (.ifCond .eq 22, 3) := by decide +kernel
theorem d_M_leads_32 : decode b_M_leads 32 = .ok (.aload_n 0, 1) := by decide +kernel
theorem d_M_leads_33 : decode b_M_leads 33 = .ok (.getfield 29, 3) := by decide +kernel
theorem d_M_leads_36 : decode b_M_leads 36 = .ok (.iload 5, 2) := by decide +kernel
theorem d_M_leads_38 : decode b_M_leads 38 = .ok (.iaload, 1) := by decide +kernel
theorem d_M_leads_39 : decode b_M_leads 39 = .ok (.iload_n 3, 1) := by decide +kernel
theorem d_M_leads_40 : decode b_M_leads 40 = .ok (.iand, 1) := by decide +kernel
theorem d_M_leads_41 : decode b_M_leads 41 = .ok (.ifCond .eq 10, 3) := by decide +kernel
theorem d_M_leads_44 : decode b_M_leads 44 = .ok (.iload_n 3, 1) := by decide +kernel
theorem d_M_leads_45 : decode b_M_leads 45 = .ok (.iconst 1, 1) := by decide +kernel
theorem d_M_leads_46 : decode b_M_leads 46 = .ok (.iload 5, 2) := by decide +kernel
theorem d_M_leads_48 : decode b_M_leads 48 = .ok (.ishl, 1) := by decide +kernel
theorem d_M_leads_49 : decode b_M_leads 49 = .ok (.ior, 1) := by decide +kernel
theorem d_M_leads_50 : decode b_M_leads 50 = .ok (.istore_n 3, 1) := by decide +kernel
theorem d_M_leads_51 : decode b_M_leads 51 = .ok (.iinc 5 1, 3) := by decide +kernel
theorem d_M_leads_54 : decode b_M_leads 54 = .ok (.goto (-38), 3) := by decide +kernel
theorem d_M_leads_57 : decode b_M_leads 57 = .ok (.iinc 4 1, 3) := by decide +kernel
theorem d_M_leads_60 : decode b_M_leads 60 = .ok (.goto (-53), 3) := by decide +kernel
theorem d_M_leads_63 : decode b_M_leads 63 = .ok (.iload_n 3, 1) := by decide +kernel
theorem d_M_leads_64 : decode b_M_leads 64 = .ok (.iload_n 2, 1) := by decide +kernel
theorem d_M_leads_65 : decode b_M_leads 65 = .ok (.ishr, 1) := by decide +kernel
theorem d_M_leads_66 : decode b_M_leads 66 = .ok (.iconst 1, 1) := by decide +kernel
theorem d_M_leads_67 : decode b_M_leads 67 = .ok (.iand, 1) := by decide +kernel
theorem d_M_leads_68 : decode b_M_leads 68 = .ok (.iconst 1, 1) := by decide +kernel
theorem d_M_leads_69 : decode b_M_leads 69 = .ok (.if_icmp .ne 7, 3) := by decide +kernel
theorem d_M_leads_72 : decode b_M_leads 72 = .ok (.iconst 1, 1) := by decide +kernel
theorem d_M_leads_73 : decode b_M_leads 73 = .ok (.goto 4, 3) := by decide +kernel
theorem d_M_leads_76 : decode b_M_leads 76 = .ok (.iconst 0, 1) := by decide +kernel
theorem d_M_leads_77 : decode b_M_leads 77 = .ok (.ireturn, 1) := by decide +kernel
set_option maxHeartbeats 4000000 in
set_option maxRecDepth 100000 in
theorem lp_M_leads2 {l : Launch} {D : va_G} {h : Nat → Nat} {cs : Nat → ClassId} {cp : Nat} {cap : Int} {fu : Nat} {fd mi : Int} {mb : Nat} {N : Nat → Nat → Nat} {B : Nat → Int} {K : Kc} (C : Kok D (tysM cs) K b_M_leads 6 R_M 0) {pr : Nat} (hpr : pr < 32) (hM : okM pr N) {i j : Nat} (hi : i < 5) (hj : pr.testBit j = true) {r : Nat} (hr : r < 5) (kk : ∀ s, REQ (EY pr (N 7)) j r 5 s → J l D K (wM h cs) (cp, cap, fu, fd, mi, mb, N, B) 57 [.ref (h 0), .int (nI j), .int (nI i), .int (nI s), .int (nI r)] []) : ∀ k, k ≤ 5 → ∀ s, REQ (EY pr (N 7)) j r k s → J l D K (wM h cs) (cp, cap, fu, fd, mi, mb, N, B) 16 [.ref (h 0), .int (nI j), .int (nI i), .int (nI s), .int (nI r), .int (nI k)] [] := by
  refine up_ind 5 ?_
  intro k hk ih s hF
  have hs := hF.1
  have hab : N 7 k &&& s < 32 := and_lt32 hs
  refine j_iload C d_M_leads_16 (x := nI k) rfl ?_
  refine j_iconst C d_M_leads_18 (v := nI 5) (by decide) ?_
  refine j_icmp_ge C d_M_leads_19 (tgt := 57) (by decide) (tI k (by omega)) (tI 5 (by decide)) (fun c_19 => ?_) (fun c_19 => ?_)
  · obtain rfl : k = 5 := by omega
    refine j_take 5 rfl ?_
    exact kk s hF
  · refine j_aload_n C d_M_leads_22 (a := h 0) rfl ?_
    refine m_get C 2 (v := .ref (h 1)) d_M_leads_23 (by decide) fl_M_2 rfl ?_
    refine j_iload C d_M_leads_26 (x := nI k) rfl ?_
    refine j_zald C 1 0 (f := fun ξ => nI ((N 1) ξ)) (i := k) (v := nI (N 1 k)) d_M_leads_28 rfl rfl (by omega) (by decide) rfl ?_
    have q_28 := held_1 hM (show k < 5 by omega)
    refine j_if_eq C d_M_leads_29 (tgt := 51) (by decide) (tI (N 1 k) (by omega)) (fun c_29 => ?_) (fun c_29 => ?_)
    · have hnew := REQ_skip hF (fun u _ _ z => by have := z.2.1; rw [held_f hM (by omega) c_29] at this; cases this)
      refine j_iinc C d_M_leads_51 (Nat.le_of_ble_eq_true rfl) (x := nI k) (v := nI (k + 1)) rfl (nI_add _ _) (L' := [.ref (h 0), .int (nI j), .int (nI i), .int (nI s), .int (nI r), .int (nI (k + 1))]) rfl ?_
      refine j_goto C d_M_leads_54 (tgt := 16) (by decide) ?_
      exact ih (by omega) _ hnew
    · refine j_aload_n C d_M_leads_32 (a := h 0) rfl ?_
      refine m_get C 8 (v := .ref (h 7)) d_M_leads_33 (by decide) fl_M_8 rfl ?_
      refine j_iload C d_M_leads_36 (x := nI k) rfl ?_
      refine j_iald C 7 6 (f := fun ξ => nI ((N 7) ξ)) (i := k) (v := nI (N 7 k)) d_M_leads_38 rfl rfl (by omega) (by decide) rfl ?_
      refine j_iload_n C d_M_leads_39 (x := nI s) rfl ?_
      refine j_iand C d_M_leads_40 (z := nI ((N 7 k) &&& s)) (nI_and _ _) ?_
      refine j_if_eq C d_M_leads_41 (tgt := 51) (by decide) (tI ((N 7 k) &&& s) (by omega)) (fun c_41 => ?_) (fun c_41 => ?_)
      · have hnew := REQ_skip hF (fun u _ hsu z => by have := z.2.2; rw [and_no (by omega) hsu] at this; cases this)
        refine j_iinc C d_M_leads_51 (Nat.le_of_ble_eq_true rfl) (x := nI k) (v := nI (k + 1)) rfl (nI_add _ _) (L' := [.ref (h 0), .int (nI j), .int (nI i), .int (nI s), .int (nI r), .int (nI (k + 1))]) rfl ?_
        refine j_goto C d_M_leads_54 (tgt := 16) (by decide) ?_
        exact ih (by omega) _ hnew
      · obtain ⟨u, hu5, hu1, hu2⟩ := and_ex (a := N 7 k) hs (by omega)
        obtain ⟨n, hn⟩ := hF.2.1 u hu2
        have hnew := REQ_set hF (by omega) ⟨u, hu5, hu2, RnY_in hj n u hn, held_t hM (by omega) c_29, hu1⟩
        refine j_iload_n C d_M_leads_44 (x := nI s) rfl ?_
        refine j_iconst C d_M_leads_45 (v := nI 1) (by decide) ?_
        refine j_iload C d_M_leads_46 (x := nI k) rfl ?_
        refine j_ishl C d_M_leads_48 (z := nI (2 ^ k)) (nI_shl1 (by omega)) ?_
        refine j_ior C d_M_leads_49 (z := nI (s ||| (2 ^ k))) (nI_or _ _) ?_
        refine j_istore_n C d_M_leads_50 (Nat.le_of_ble_eq_true rfl) (Nat.le_of_ble_eq_true rfl) (L' := [.ref (h 0), .int (nI j), .int (nI i), .int (nI (s ||| (2 ^ k))), .int (nI r), .int (nI k)]) rfl ?_
        refine j_iinc C d_M_leads_51 (Nat.le_of_ble_eq_true rfl) (x := nI k) (v := nI (k + 1)) rfl (nI_add _ _) (L' := [.ref (h 0), .int (nI j), .int (nI i), .int (nI (s ||| (2 ^ k))), .int (nI r), .int (nI (k + 1))]) rfl ?_
        refine j_goto C d_M_leads_54 (tgt := 16) (by decide) ?_
        exact ih (by omega) _ hnew
set_option maxHeartbeats 4000000 in
set_option maxRecDepth 100000 in
/-- leads(j, i) -/
theorem c_M_leads (l : Launch) (D : va_G) (h : Nat → Nat) (cs : Nat → ClassId) {cp : Nat} {cap : Int} {fu : Nat} {fd mi : Int} {mb : Nat} {N : Nat → Nat → Nat} {B : Nat → Int} {pr : Nat} (hpr : pr < 32) (hM : okM pr N) {i j : Nat} (hi : i < 5) (hj : pr.testBit j = true) {rk : Nat → Nat} (hrk : ∀ q, q < 5 → rk q < 5) (hA : ∀ a b, EY pr (N 7) a b → rk a < rk b) : CI l y_M_leads b_M_leads 6 .boolean 0 D (tysM cs) (wM h cs) (cp, cap, fu, fd, mi, mb, N, B) [.ref (h 0), .int (nI j), .int (nI i)] (fun r u' => u' = (cp, cap, fu, fd, mi, mb, N, B) ∧ ((r = nI 1 ∧ Rc (EY pr (N 7)) j i) ∨ (r = nI 0 ∧ ¬ Rc (EY pr (N 7)) j i))) := by
  refine CI_of ok_M_leads (Nat.le_of_ble_eq_true rfl) (cat_all rfl) ?_
  intro K C hret
  have C : Kok D (tysM cs) K b_M_leads 6 R_M 0 := C
  have hj5 := lt5_of hpr hj
  refine j_iconst C d_M_leads_0 (v := nI 1) (by decide) ?_
  refine j_iload_n C d_M_leads_1 (x := nI j) rfl ?_
  refine j_ishl C d_M_leads_2 (z := nI (2 ^ j)) (nI_shl1 (by omega)) ?_
  refine j_istore_n C d_M_leads_3 (Nat.le_of_ble_eq_true rfl) (Nat.le_of_ble_eq_true rfl) (L' := [.ref (h 0), .int (nI j), .int (nI i), .int (nI (2 ^ j))]) rfl ?_
  refine j_iconst C d_M_leads_4 (v := nI 0) (by decide) ?_
  refine j_istore C d_M_leads_5 (Nat.le_of_ble_eq_true rfl) (Nat.le_of_ble_eq_true rfl) (L' := [.ref (h 0), .int (nI j), .int (nI i), .int (nI (2 ^ j)), .int (nI 0)]) rfl ?_
  have key : ∀ r, r ≤ 5 → ∀ s, REQ (EY pr (N 7)) j r 0 s → J l D K (wM h cs) (cp, cap, fu, fd, mi, mb, N, B) 7 [.ref (h 0), .int (nI j), .int (nI i), .int (nI s), .int (nI r)] [] := by
    refine up_ind 5 ?_
    intro r hr ih s hF
    have hs := hF.1
    refine j_iload C d_M_leads_7 (x := nI r) rfl ?_
    refine j_iconst C d_M_leads_9 (v := nI 5) (by decide) ?_
    refine j_icmp_ge C d_M_leads_10 (tgt := 63) (by decide) (tI r (by omega)) (tI 5 (by decide)) (fun c_10 => ?_) (fun c_10 => ?_)
    · obtain rfl : r = 5 := by omega
      have hE := REQ_end hA hrk hF i hi
      refine j_iload_n C d_M_leads_63 (x := nI s) rfl ?_
      refine j_iload_n C d_M_leads_64 (x := nI i) rfl ?_
      refine j_ishr C d_M_leads_65 (z := nI (s / 2 ^ i)) (nI_shr (by omega) (by omega)) ?_
      refine j_iconst C d_M_leads_66 (v := nI 1) (by decide) ?_
      refine j_iand C d_M_leads_67 (z := nI (tb s i)) (nI_bit (by omega)) ?_
      refine j_iconst C d_M_leads_68 (v := nI 1) (by decide) ?_
      refine j_icmp_ne C d_M_leads_69 (tgt := 76) (by decide) (tI _ (tb_lt _ _)) (tI 1 (by decide)) (fun c_69 => ?_) (fun c_69 => ?_)
      · have b_69 : Nat.testBit s i = false := tb_f1 c_69
        refine j_iconst C d_M_leads_76 (v := nI 0) (by decide) ?_
        exact hret _ _ _ _ d_M_leads_77 rfl ⟨rfl, Or.inr ⟨rfl, fun z => by have := hE.mpr z; rw [b_69] at this; cases this⟩⟩
      · have b_69 : Nat.testBit s i = true := tb_t1 c_69
        refine j_iconst C d_M_leads_72 (v := nI 1) (by decide) ?_
        refine j_goto C d_M_leads_73 (tgt := 77) (by decide) ?_
        exact hret _ _ _ _ d_M_leads_77 rfl ⟨rfl, Or.inl ⟨rfl, hE.mp b_69⟩⟩
    · refine j_iconst C d_M_leads_13 (v := nI 0) (by decide) ?_
      refine j_istore C d_M_leads_14 (Nat.le_of_ble_eq_true rfl) (Nat.le_of_ble_eq_true rfl) (L' := [.ref (h 0), .int (nI j), .int (nI i), .int (nI s), .int (nI r), .int (nI 0)]) rfl ?_
      refine lp_M_leads2 C hpr hM hi hj (r := r) (by omega) (fun s hF => ?_) 0 (by omega) s hF
      refine j_iinc C d_M_leads_57 (Nat.le_of_ble_eq_true rfl) (x := nI r) (v := nI (r + 1)) rfl (nI_add _ _) (L' := [.ref (h 0), .int (nI j), .int (nI i), .int (nI s), .int (nI (r + 1))]) rfl ?_
      refine j_goto C d_M_leads_60 (tgt := 7) (by decide) ?_
      exact ih (by omega) _ (REQ_round (fun u v z => lt5_of hpr z.2.1) hF)
  exact key 0 (by omega) _ (REQ_0 hj5)
theorem d_M_link_0 : decode b_M_link 0 = .ok (.aload_n 0, 1) := by decide +kernel
theorem d_M_link_1 : decode b_M_link 1 = .ok (.iload_n 1, 1) := by decide +kernel
theorem d_M_link_2 : decode b_M_link 2 = .ok (.invokevirtual 77, 3) := by decide +kernel
theorem d_M_link_5 : decode b_M_link 5 = .ok (.ifCond .eq 16, 3) := by decide +kernel
theorem d_M_link_8 : decode b_M_link 8 = .ok (.aload_n 0, 1) := by decide +kernel
theorem d_M_link_9 : decode b_M_link 9 = .ok (.iload_n 2, 1) := by decide +kernel
theorem d_M_link_10 : decode b_M_link 10 = .ok (.invokevirtual 77, 3) := by decide +kernel
theorem d_M_link_13 : decode b_M_link 13 = .ok (.ifCond .eq 8, 3) := by decide +kernel
theorem d_M_link_16 : decode b_M_link 16 = .ok (.iload_n 1, 1) := by decide +kernel
theorem d_M_link_17 : decode b_M_link 17 = .ok (.iload_n 2, 1) := by decide +kernel
theorem d_M_link_18 : decode b_M_link 18 = .ok (.if_icmp .ne 5, 3) := by decide +kernel
theorem d_M_link_21 : decode b_M_link 21 = .ok (.iconst (-1), 1) := by decide +kernel
theorem d_M_link_22 : decode b_M_link 22 = .ok (.ireturn, 1) := by decide +kernel
theorem d_M_link_23 : decode b_M_link 23 = .ok (.aload_n 0, 1) := by decide +kernel
theorem d_M_link_24 : decode b_M_link 24 = .ok (.iload_n 1, 1) := by decide +kernel
theorem d_M_link_25 : decode b_M_link 25 = .ok (.iload_n 2, 1) := by decide +kernel
theorem d_M_link_26 : decode b_M_link 26 = .ok (.invokevirtual 81, 3) := by decide +kernel
theorem d_M_link_29 : decode b_M_link 29 = .ok (.ifCond .eq 5, 3) := by decide +kernel
theorem d_M_link_32 : decode b_M_link 32 = .ok (.iconst 0, 1) := by decide +kernel
theorem d_M_link_33 : decode b_M_link 33 = .ok (.ireturn, 1) := by decide +kernel
theorem d_M_link_34 : decode b_M_link 34 = .ok (.aload_n 0, 1) := by decide +kernel
theorem d_M_link_35 : decode b_M_link 35 = .ok (.iload_n 2, 1) := by decide +kernel
theorem d_M_link_36 : decode b_M_link 36 = .ok (.iload_n 1, 1) := by decide +kernel
theorem d_M_link_37 : decode b_M_link 37 = .ok (.invokevirtual 84, 3) := by decide +kernel
theorem d_M_link_40 : decode b_M_link 40 = .ok (.ifCond .eq 6, 3) := by decide +kernel
theorem d_M_link_43 : decode b_M_link 43 = .ok (.bipush (-4), 2) := by decide +kernel
theorem d_M_link_45 : decode b_M_link 45 = .ok (.ireturn, 1) := by decide +kernel
theorem d_M_link_46 : decode b_M_link 46 = .ok (.aload_n 0, 1) := by decide +kernel
theorem d_M_link_47 : decode b_M_link 47 = .ok (.getfield 29, 3) := by decide +kernel
theorem d_M_link_50 : decode b_M_link 50 = .ok (.iload_n 2, 1) := by decide +kernel
theorem d_M_link_51 : decode b_M_link 51 = .ok (.aload_n 0, 1) := by decide +kernel
theorem d_M_link_52 : decode b_M_link 52 = .ok (.getfield 29, 3) := by decide +kernel
theorem d_M_link_55 : decode b_M_link 55 = .ok (.iload_n 2, 1) := by decide +kernel
theorem d_M_link_56 : decode b_M_link 56 = .ok (.iaload, 1) := by decide +kernel
theorem d_M_link_57 : decode b_M_link 57 = .ok (.iconst 1, 1) := by decide +kernel
theorem d_M_link_58 : decode b_M_link 58 = .ok (.iload_n 1, 1) := by decide +kernel
theorem d_M_link_59 : decode b_M_link 59 = .ok (.ishl, 1) := by decide +kernel
theorem d_M_link_60 : decode b_M_link 60 = .ok (.ior, 1) := by decide +kernel
theorem d_M_link_61 : decode b_M_link 61 = .ok (.iastore, 1) := by decide +kernel
theorem d_M_link_62 : decode b_M_link 62 = .ok (.aload_n 0, 1) := by decide +kernel
theorem d_M_link_63 : decode b_M_link 63 = .ok (.invokevirtual 73, 3) := by decide +kernel
theorem d_M_link_66 : decode b_M_link 66 = .ok (.ifCond .eq 5, 3) := by decide +kernel
theorem d_M_link_69 : decode b_M_link 69 = .ok (.iconst 0, 1) := by decide +kernel
theorem d_M_link_70 : decode b_M_link 70 = .ok (.ireturn, 1) := by decide +kernel
theorem d_M_link_71 : decode b_M_link 71 = .ok (.aload_n 0, 1) := by decide +kernel
theorem d_M_link_72 : decode b_M_link 72 = .ok (.getfield 29, 3) := by decide +kernel
theorem d_M_link_75 : decode b_M_link 75 = .ok (.iload_n 2, 1) := by decide +kernel
theorem d_M_link_76 : decode b_M_link 76 = .ok (.aload_n 0, 1) := by decide +kernel
theorem d_M_link_77 : decode b_M_link 77 = .ok (.getfield 29, 3) := by decide +kernel
theorem d_M_link_80 : decode b_M_link 80 = .ok (.iload_n 2, 1) := by decide +kernel
theorem d_M_link_81 : decode b_M_link 81 = .ok (.iaload, 1) := by decide +kernel
theorem d_M_link_82 : decode b_M_link 82 = .ok (.iconst 1, 1) := by decide +kernel
theorem d_M_link_83 : decode b_M_link 83 = .ok (.iload_n 1, 1) := by decide +kernel
theorem d_M_link_84 : decode b_M_link 84 = .ok (.ishl, 1) := by decide +kernel
theorem d_M_link_85 : decode b_M_link 85 = .ok (.iconst (-1), 1) := by decide +kernel
theorem d_M_link_86 : decode b_M_link 86 = .ok (.ixor, 1) := by decide +kernel
theorem d_M_link_87 : decode b_M_link 87 = .ok (.iand, 1) := by decide +kernel
theorem d_M_link_88 : decode b_M_link 88 = .ok (.iastore, 1) := by decide +kernel
theorem d_M_link_89 : decode b_M_link 89 = .ok (.bipush (-3), 2) := by decide +kernel
theorem d_M_link_91 : decode b_M_link 91 = .ok (.ireturn, 1) := by decide +kernel
def LnkM (pr : Nat) (cap : Int) (mi : Int) (mb : Nat) (N : Nat → Nat → Nat) (x y res : Int32) (N' : Nat → Nat → Nat) : Prop := (res = (-1) ∧ N' = N ∧ (¬ hld 5 pr x ∨ ¬ hld 5 pr y ∨ x = y)) ∨ ∃ i j, x = nI i ∧ y = nI j ∧ i ≠ j ∧ i < 5 ∧ j < 5 ∧ pr.testBit i = true ∧ pr.testBit j = true ∧ ((res = nI 0 ∧ N' = N ∧ (N 7 j).testBit i = true) ∨ ((N 7 j).testBit i = false ∧ ((res = (-4) ∧ N' = N ∧ Rc (EY pr (N 7)) j i) ∨ (¬ Rc (EY pr (N 7)) j i ∧ ((res = nI 0 ∧ N' = preN N j (N 7 j ||| 2 ^ i) ∧ FM pr N' mi mb cap) ∨ (res = (-3) ∧ N' = N ∧ ¬ FM pr (preN N j (N 7 j ||| 2 ^ i)) mi mb cap))))))
set_option maxHeartbeats 4000000 in
set_option maxRecDepth 100000 in
/-- link(x, y) -/
theorem c_M_link (l : Launch) (D : va_G) (h : Nat → Nat) (cs : Nat → ClassId) {cp : Nat} {cap : Int} {fu : Nat} {fd mi : Int} {mb : Nat} {N : Nat → Nat → Nat} {B : Nat → Int} {pr : Nat} (hpr : pr < 32) (hM : okM pr N) (hmi : -1 ≤ mi ∧ mi < 5) (hmb : mb ≤ 60) (hcap : -200 ≤ cap ∧ cap ≤ 1000) {rk : Nat → Nat} (hrk : ∀ q, q < 5 → rk q < 5) (hA : ∀ a b, EY pr (N 7) a b → rk a < rk b) (x y : Int32) : CI l y_M_link b_M_link 3 .int 4 D (tysM cs) (wM h cs) (cp, cap, fu, fd, mi, mb, N, B) [.ref (h 0), .int x, .int y] (fun res u' => ∃ N' fu' fd' B', u' = (cp, cap, fu', fd', mi, mb, N', B') ∧ LnkM pr cap mi mb N x y res N') := by
  refine CI_of ok_M_link (Nat.le_of_ble_eq_true rfl) (cat_all rfl) ?_
  intro K C hret
  have C : Kok D (tysM cs) K b_M_link 3 R_M 4 := C
  refine j_aload_n C d_M_link_0 (a := h 0) rfl ?_
  refine j_iload_n C d_M_link_1 (x := x) rfl ?_
  refine j_calli C (c_M_there l D h cs hpr hM x) (As := [.int x]) (rest := []) ok_M_there ml_M_77 (by decide) d_M_link_2 (q0 := 0) rfl rfl rfl rfl (Nat.le_of_ble_eq_true rfl) ?_
  intro r_2 u' hp
  obtain ⟨rfl, hp_2⟩ := hp
  refine j_if_eq C d_M_link_5 (tgt := 21) (by decide) (rfl) (fun c_5 => ?_) (fun c_5 => ?_)
  · have t_5 := bool_f hp_2 c_5
    refine j_iconst C d_M_link_21 (v := (-1)) (by decide) ?_
    exact hret _ _ _ _ d_M_link_22 rfl ⟨N, fu, fd, B, rfl, Or.inl ⟨rfl, rfl, by first | exact Or.inl t_5 | exact Or.inr (Or.inl t_13) | exact Or.inr (Or.inr (Int32.toInt_inj.mp c_18))⟩⟩
  · have t_5 := bool_t hp_2 c_5
    refine j_aload_n C d_M_link_8 (a := h 0) rfl ?_
    refine j_iload_n C d_M_link_9 (x := y) rfl ?_
    refine j_calli C (c_M_there l D h cs hpr hM y) (As := [.int y]) (rest := []) ok_M_there ml_M_77 (by decide) d_M_link_10 (q0 := 0) rfl rfl rfl rfl (Nat.le_of_ble_eq_true rfl) ?_
    intro r_10 u' hp
    obtain ⟨rfl, hp_10⟩ := hp
    refine j_if_eq C d_M_link_13 (tgt := 21) (by decide) (rfl) (fun c_13 => ?_) (fun c_13 => ?_)
    · have t_13 := bool_f hp_10 c_13
      refine j_iconst C d_M_link_21 (v := (-1)) (by decide) ?_
      exact hret _ _ _ _ d_M_link_22 rfl ⟨N, fu, fd, B, rfl, Or.inl ⟨rfl, rfl, by first | exact Or.inl t_5 | exact Or.inr (Or.inl t_13) | exact Or.inr (Or.inr (Int32.toInt_inj.mp c_18))⟩⟩
    · have t_13 := bool_t hp_10 c_13
      refine j_iload_n C d_M_link_16 (x := x) rfl ?_
      refine j_iload_n C d_M_link_17 (x := y) rfl ?_
      refine j_icmp_ne C d_M_link_18 (tgt := 23) (by decide) (rfl) (rfl) (fun c_18 => ?_) (fun c_18 => ?_)
      · obtain ⟨i, hi, rfl, hbi⟩ := t_5
        obtain ⟨j, hj, rfl, hbj⟩ := t_13
        rw [tI i (by omega), tI j (by omega)] at c_18
        have hij : i ≠ j := by omega
        have h7 := (hM.2 j hj).2.2.2.2.2
        have hp2 := pow_lt hi
        have hor := or_lt h7 hp2
        refine j_aload_n C d_M_link_23 (a := h 0) rfl ?_
        refine j_iload_n C d_M_link_24 (x := nI i) rfl ?_
        refine j_iload_n C d_M_link_25 (x := nI j) rfl ?_
        refine j_calli C (c_M_linked l D h cs hpr hM (nI i) (nI j)) (As := [.int (nI i), .int (nI j)]) (rest := []) ok_M_linked ml_M_81 (by decide) d_M_link_26 (q0 := 0) rfl rfl rfl rfl (Nat.le_of_ble_eq_true rfl) ?_
        intro r_26 u' hp
        obtain ⟨rfl, hp_26⟩ := hp
        refine j_if_eq C d_M_link_29 (tgt := 34) (by decide) (rfl) (fun c_29 => ?_) (fun c_29 => ?_)
        · have t_29 := bool_f hp_26 c_29
          have hnb : (N 7 j).testBit i = false := by
            cases hz : (N 7 j).testBit i
            · rfl
            · exact absurd ⟨i, j, rfl, rfl, hi, hj, hbi, hbj, hz⟩ t_29
          refine j_aload_n C d_M_link_34 (a := h 0) rfl ?_
          refine j_iload_n C d_M_link_35 (x := nI j) rfl ?_
          refine j_iload_n C d_M_link_36 (x := nI i) rfl ?_
          refine j_calli C (c_M_leads l D h cs hpr hM hi hbj hrk hA) (As := [.int (nI j), .int (nI i)]) (rest := []) ok_M_leads ml_M_84 (by decide) d_M_link_37 (q0 := 0) rfl rfl rfl rfl (Nat.le_of_ble_eq_true rfl) ?_
          intro r_37 u' hp
          obtain ⟨rfl, hp_37⟩ := hp
          refine j_if_eq C d_M_link_40 (tgt := 46) (by decide) (rfl) (fun c_40 => ?_) (fun c_40 => ?_)
          · have t_40 := bool_f hp_37 c_40
            refine j_aload_n C d_M_link_46 (a := h 0) rfl ?_
            refine m_get C 8 (v := .ref (h 7)) d_M_link_47 (by decide) fl_M_8 rfl ?_
            refine j_iload_n C d_M_link_50 (x := nI j) rfl ?_
            refine j_aload_n C d_M_link_51 (a := h 0) rfl ?_
            refine m_get C 8 (v := .ref (h 7)) d_M_link_52 (by decide) fl_M_8 rfl ?_
            refine j_iload_n C d_M_link_55 (x := nI j) rfl ?_
            refine j_iald C 7 6 (f := fun ξ => nI ((N 7) ξ)) (i := j) (v := nI (N 7 j)) d_M_link_56 rfl rfl (by omega) (by decide) rfl ?_
            refine j_iconst C d_M_link_57 (v := nI 1) (by decide) ?_
            refine j_iload_n C d_M_link_58 (x := nI i) rfl ?_
            refine j_ishl C d_M_link_59 (z := nI (2 ^ i)) (nI_shl1 (by omega)) ?_
            refine j_ior C d_M_link_60 (z := nI ((N 7 j) ||| (2 ^ i))) (nI_or _ _) ?_
            refine j_iast C 7 6 nI (g := N 7) (i := j) (v := (N 7 j) ||| (2 ^ i)) (u' := (cp, cap, fu, fd, mi, mb, va_up N 7 (va_up (N 7) j ((N 7 j) ||| (2 ^ i))), B)) d_M_link_61 rfl rfl (by omega) (by decide) rfl ?_
            refine j_aload_n C d_M_link_62 (a := h 0) rfl ?_
            refine j_calli C (c_M_good l D h cs (N := preN N j (N 7 j ||| 2 ^ i)) (mi := mi) (mb := mb) (pr := pr) hpr (okM_pre hM hor) hmi hmb hcap) (As := []) (rest := []) ok_M_good ml_M_73 (by decide) d_M_link_63 (q0 := 0) rfl rfl rfl rfl (Nat.le_of_ble_eq_true rfl) ?_
            intro r_63 u' hq3
            obtain ⟨⟨fu', fd', B', rfl⟩, hp_63⟩ := hq3
            refine j_if_eq C d_M_link_66 (tgt := 71) (by decide) (rfl) (fun c_66 => ?_) (fun c_66 => ?_)
            · have t_66 := bool_f hp_63 c_66
              refine j_aload_n C d_M_link_71 (a := h 0) rfl ?_
              refine m_get C 8 (v := .ref (h 7)) d_M_link_72 (by decide) fl_M_8 rfl ?_
              refine j_iload_n C d_M_link_75 (x := nI j) rfl ?_
              refine j_aload_n C d_M_link_76 (a := h 0) rfl ?_
              refine m_get C 8 (v := .ref (h 7)) d_M_link_77 (by decide) fl_M_8 rfl ?_
              refine j_iload_n C d_M_link_80 (x := nI j) rfl ?_
              refine j_iald C 7 6 (f := fun ξ => nI ((va_up (N 7) j (N 7 j ||| 2 ^ i)) ξ)) (i := j) (v := nI (N 7 j ||| 2 ^ i)) d_M_link_81 rfl rfl (by omega) (by decide) (congrArg nI (va_up_self _ _ _)) ?_
              refine j_iconst C d_M_link_82 (v := nI 1) (by decide) ?_
              refine j_iload_n C d_M_link_83 (x := nI i) rfl ?_
              refine j_ishl C d_M_link_84 (z := nI (2 ^ i)) (nI_shl1 (by omega)) ?_
              refine j_iconst C d_M_link_85 (v := (-1)) (by decide) ?_
              refine j_ixor C d_M_link_86 (z := nI (2 ^ i) ^^^ (-1)) (rfl) ?_
              refine j_iand C d_M_link_87 (z := nI (dif (N 7 j ||| 2 ^ i) (2 ^ i))) (nI_dif (by omega) (by omega)) ?_
              refine j_iast C 7 6 nI (g := va_up (N 7) j (N 7 j ||| 2 ^ i)) (i := j) (v := dif (N 7 j ||| 2 ^ i) (2 ^ i)) (u' := (cp, cap, fu', fd', mi, mb, va_up (preN N j (N 7 j ||| 2 ^ i)) 7 (va_up (va_up (N 7) j (N 7 j ||| 2 ^ i)) j (dif (N 7 j ||| 2 ^ i) (2 ^ i))), B')) d_M_link_88 rfl rfl (by omega) (by decide) rfl ?_
              refine j_bipush C d_M_link_89 (v := (-3)) (by decide) ?_
              rw [pre_back N j _ _ (or_dif h7 hi hnb)]
              exact hret _ _ _ _ d_M_link_91 rfl ⟨_, fu', fd', B', rfl, Or.inr ⟨i, j, rfl, rfl, hij, hi, hj, hbi, hbj,  Or.inr ⟨hnb, Or.inr ⟨t_40, Or.inr ⟨rfl, rfl, t_66⟩⟩⟩⟩⟩
            · have t_66 := bool_t hp_63 c_66
              refine j_iconst C d_M_link_69 (v := nI 0) (by decide) ?_
              exact hret _ _ _ _ d_M_link_70 rfl ⟨_, fu', fd', B', rfl, Or.inr ⟨i, j, rfl, rfl, hij, hi, hj, hbi, hbj,  Or.inr ⟨hnb, Or.inr ⟨t_40, Or.inl ⟨rfl, rfl, t_66⟩⟩⟩⟩⟩
          · have t_40 := bool_t hp_37 c_40
            refine j_bipush C d_M_link_43 (v := (-4)) (by decide) ?_
            exact hret _ _ _ _ d_M_link_45 rfl ⟨N, fu, fd, B, rfl, Or.inr ⟨i, j, rfl, rfl, hij, hi, hj, hbi, hbj,  Or.inr ⟨hnb, Or.inl ⟨rfl, rfl, t_40⟩⟩⟩⟩
        · have t_29 := bool_t hp_26 c_29
          refine j_iconst C d_M_link_32 (v := nI 0) (by decide) ?_
          exact hret _ _ _ _ d_M_link_33 rfl ⟨N, fu, fd, B, rfl, Or.inr ⟨i, j, rfl, rfl, hij, hi, hj, hbi, hbj,  Or.inl ⟨rfl, rfl, lkm_n hi hj t_29⟩⟩⟩
      · refine j_iconst C d_M_link_21 (v := (-1)) (by decide) ?_
        exact hret _ _ _ _ d_M_link_22 rfl ⟨N, fu, fd, B, rfl, Or.inl ⟨rfl, rfl, by first | exact Or.inl t_5 | exact Or.inr (Or.inl t_13) | exact Or.inr (Or.inr (Int32.toInt_inj.mp c_18))⟩⟩
theorem d_M_remove_0 : decode b_M_remove 0 = .ok (.aload_n 0, 1) := by decide +kernel
theorem d_M_remove_1 : decode b_M_remove 1 = .ok (.iload_n 1, 1) := by decide +kernel
theorem d_M_remove_2 : decode b_M_remove 2 = .ok (.invokevirtual 77, 3) := by decide +kernel
theorem d_M_remove_5 : decode b_M_remove 5 = .ok (.ifCond .ne 5, 3) := by decide +kernel
theorem d_M_remove_8 : decode b_M_remove 8 = .ok (.iconst 0, 1) := by decide +kernel
theorem d_M_remove_9 : decode b_M_remove 9 = .ok (.ireturn, 1) := by decide +kernel
theorem d_M_remove_10 : decode b_M_remove 10 = .ok (.aload_n 0, 1) := by decide +kernel
theorem d_M_remove_11 : decode b_M_remove 11 = .ok (.getfield 7, 3) := by decide +kernel
theorem d_M_remove_14 : decode b_M_remove 14 = .ok (.iload_n 1, 1) := by decide +kernel
theorem d_M_remove_15 : decode b_M_remove 15 = .ok (.iconst 0, 1) := by decide +kernel
theorem d_M_remove_16 : decode b_M_remove 16 = .ok (.bastore, 1) := by decide +kernel
theorem d_M_remove_17 : decode b_M_remove 17 = .ok (.iconst 0, 1) := by decide +kernel
theorem d_M_remove_18 : decode b_M_remove 18 = .ok (.istore_n 2, 1) := by decide +kernel
theorem d_M_remove_19 : decode b_M_remove 19 = .ok (.iload_n 2, 1) := by decide +kernel
theorem d_M_remove_20 : decode b_M_remove 20 = .ok (.iconst 5, 1) := by decide +kernel
theorem d_M_remove_21 : decode b_M_remove 21 = .ok (.if_icmp .ge 27, 3) := by decide +kernel
theorem d_M_remove_24 : decode b_M_remove 24 = .ok (.aload_n 0, 1) := by decide +kernel
theorem d_M_remove_25 : decode b_M_remove 25 = .ok (.getfield 29, 3) := by decide +kernel
theorem d_M_remove_28 : decode b_M_remove 28 = .ok (.iload_n 2, 1) := by decide +kernel
theorem d_M_remove_29 : decode b_M_remove 29 = .ok (.aload_n 0, 1) := by decide +kernel
theorem d_M_remove_30 : decode b_M_remove 30 = .ok (.getfield 29, 3) := by decide +kernel
theorem d_M_remove_33 : decode b_M_remove 33 = .ok (.iload_n 2, 1) := by decide +kernel
theorem d_M_remove_34 : decode b_M_remove 34 = .ok (.iaload, 1) := by decide +kernel
theorem d_M_remove_35 : decode b_M_remove 35 = .ok (.iconst 1, 1) := by decide +kernel
theorem d_M_remove_36 : decode b_M_remove 36 = .ok (.iload_n 1, 1) := by decide +kernel
theorem d_M_remove_37 : decode b_M_remove 37 = .ok (.ishl, 1) := by decide +kernel
theorem d_M_remove_38 : decode b_M_remove 38 = .ok (.iconst (-1), 1) := by decide +kernel
theorem d_M_remove_39 : decode b_M_remove 39 = .ok (.ixor, 1) := by decide +kernel
theorem d_M_remove_40 : decode b_M_remove 40 = .ok (.iand, 1) := by decide +kernel
theorem d_M_remove_41 : decode b_M_remove 41 = .ok (.iastore, 1) := by decide +kernel
theorem d_M_remove_42 : decode b_M_remove 42 = .ok (.iinc 2 1, 3) := by decide +kernel
theorem d_M_remove_45 : decode b_M_remove 45 = .ok (.goto (-26), 3) := by decide +kernel
theorem d_M_remove_48 : decode b_M_remove 48 = .ok (.iconst 1, 1) := by decide +kernel
theorem d_M_remove_49 : decode b_M_remove 49 = .ok (.ireturn, 1) := by decide +kernel
set_option maxHeartbeats 4000000 in
set_option maxRecDepth 100000 in
/-- remove(x) -/
theorem c_M_remove (l : Launch) (D : va_G) (h : Nat → Nat) (cs : Nat → ClassId) {cp : Nat} {cap : Int} {fu : Nat} {fd mi : Int} {mb : Nat} {N : Nat → Nat → Nat} {B : Nat → Int} {pr : Nat} (hpr : pr < 32) (hM : okM pr N) (x : Int32) : CI l y_M_remove b_M_remove 3 .boolean 1 D (tysM cs) (wM h cs) (cp, cap, fu, fd, mi, mb, N, B) [.ref (h 0), .int x] (fun r u' => (r = nI 0 ∧ u' = (cp, cap, fu, fd, mi, mb, N, B) ∧ ¬ hld 5 pr x) ∨ ∃ i, x = nI i ∧ i < 5 ∧ pr.testBit i = true ∧ r = nI 1 ∧ ∃ f, u' = (cp, cap, fu, fd, mi, mb, va_up (helN N i 0) 7 f, B) ∧ rmP (N 7) (2 ^ i) 5 f) := by
  refine CI_of ok_M_remove (Nat.le_of_ble_eq_true rfl) (cat_all rfl) ?_
  intro K C hret
  have C : Kok D (tysM cs) K b_M_remove 3 R_M 1 := C
  refine j_aload_n C d_M_remove_0 (a := h 0) rfl ?_
  refine j_iload_n C d_M_remove_1 (x := x) rfl ?_
  refine j_calli C (c_M_there l D h cs hpr hM x) (As := [.int x]) (rest := []) ok_M_there ml_M_77 (by decide) d_M_remove_2 (q0 := 0) rfl rfl rfl rfl (Nat.le_of_ble_eq_true rfl) ?_
  intro r_2 u' hp
  obtain ⟨rfl, hp_2⟩ := hp
  refine j_if_ne C d_M_remove_5 (tgt := 10) (by decide) (rfl) (fun c_5 => ?_) (fun c_5 => ?_)
  · have t_5 := bool_t hp_2 c_5
    obtain ⟨i, hi, rfl, hbi⟩ := t_5
    have hp2 := pow_lt hi
    have hf0 := okM_7 hM
    refine j_aload_n C d_M_remove_10 (a := h 0) rfl ?_
    refine m_get C 2 (v := .ref (h 1)) d_M_remove_11 (by decide) fl_M_2 rfl ?_
    refine j_iload_n C d_M_remove_14 (x := nI i) rfl ?_
    refine j_iconst C d_M_remove_15 (v := nI 0) (by decide) ?_
    refine j_zast C 1 0 (g := N 1) (i := i) (v := 0) (u' := (cp, cap, fu, fd, mi, mb, va_up N 1 (va_up (N 1) i 0), B)) d_M_remove_16 rfl rfl (by omega) (by decide) (by omega) rfl ?_
    refine j_iconst C d_M_remove_17 (v := nI 0) (by decide) ?_
    refine j_istore_n C d_M_remove_18 (Nat.le_of_ble_eq_true rfl) (Nat.le_of_ble_eq_true rfl) (L' := [.ref (h 0), .int (nI i), .int (nI 0)]) rfl ?_
    have key : ∀ k, k ≤ 5 → ∀ f, rmP (N 7) (2 ^ i) k f → J l D K (wM h cs) (cp, cap, fu, fd, mi, mb, va_up (helN N i 0) 7 f, B) 19 [.ref (h 0), .int (nI i), .int (nI k)] [] := by
      refine up_ind 5 ?_
      intro k hk ih f hF
      have hfk := rmP_at hF
      refine j_iload_n C d_M_remove_19 (x := nI k) rfl ?_
      refine j_iconst C d_M_remove_20 (v := nI 5) (by decide) ?_
      refine j_icmp_ge C d_M_remove_21 (tgt := 48) (by decide) (tI k (by omega)) (tI 5 (by decide)) (fun c_21 => ?_) (fun c_21 => ?_)
      · obtain rfl : k = 5 := by omega
        refine j_iconst C d_M_remove_48 (v := nI 1) (by decide) ?_
        exact hret _ _ _ _ d_M_remove_49 rfl (Or.inr ⟨i, rfl, hi, hbi, rfl, f, rfl, hF⟩)
      · refine j_aload_n C d_M_remove_24 (a := h 0) rfl ?_
        refine m_get C 8 (v := .ref (h 7)) d_M_remove_25 (by decide) fl_M_8 rfl ?_
        refine j_iload_n C d_M_remove_28 (x := nI k) rfl ?_
        refine j_aload_n C d_M_remove_29 (a := h 0) rfl ?_
        refine m_get C 8 (v := .ref (h 7)) d_M_remove_30 (by decide) fl_M_8 rfl ?_
        refine j_iload_n C d_M_remove_33 (x := nI k) rfl ?_
        have hb31 := hf0 k (by omega)
        refine j_iald C 7 6 (f := fun ξ => nI (f ξ)) (i := k) (v := nI (f k)) d_M_remove_34 rfl rfl (by omega) (by decide) rfl ?_
        refine j_iconst C d_M_remove_35 (v := nI 1) (by decide) ?_
        refine j_iload_n C d_M_remove_36 (x := nI i) rfl ?_
        refine j_ishl C d_M_remove_37 (z := nI (2 ^ i)) (nI_shl1 (by omega)) ?_
        refine j_iconst C d_M_remove_38 (v := (-1)) (by decide) ?_
        refine j_ixor C d_M_remove_39 (z := nI (2 ^ i) ^^^ (-1)) (rfl) ?_
        refine j_iand C d_M_remove_40 (z := nI (dif (f k) (2 ^ i))) (nI_dif (by omega) (by omega)) ?_
        refine j_iast C 7 6 nI (g := f) (i := k) (v := dif (f k) (2 ^ i)) (u' := (cp, cap, fu, fd, mi, mb, va_up (helN N i 0) 7 (va_up f k (dif (f k) (2 ^ i))), B)) d_M_remove_41 rfl rfl (by omega) (by decide) rfl ?_
        refine j_iinc C d_M_remove_42 (Nat.le_of_ble_eq_true rfl) (x := nI k) (v := nI (k + 1)) rfl (nI_add _ _) (L' := [.ref (h 0), .int (nI i), .int (nI (k + 1))]) rfl ?_
        refine j_goto C d_M_remove_45 (tgt := 19) (by decide) ?_
        exact ih (by omega) _ (rmP_set hF)
    refine j_same (u' := (cp, cap, fu, fd, mi, mb, va_up (helN N i 0) 7 (N 7), B)) rfl ?_
    exact key 0 (by omega) _ (rmP_0 _ _)
  · have t_5 := bool_f hp_2 c_5
    refine j_iconst C d_M_remove_8 (v := nI 0) (by decide) ?_
    exact hret _ _ _ _ d_M_remove_9 rfl (Or.inl ⟨rfl, rfl, t_5⟩)
theorem d_M_take_0 : decode b_M_take 0 = .ok (.iconst 0, 1) := by decide +kernel
theorem d_M_take_1 : decode b_M_take 1 = .ok (.istore 5, 2) := by decide +kernel
theorem d_M_take_3 : decode b_M_take 3 = .ok (.iconst 5, 1) := by decide +kernel
theorem d_M_take_4 : decode b_M_take 4 = .ok (.istore 6, 2) := by decide +kernel
theorem d_M_take_6 : decode b_M_take 6 = .ok (.iconst 4, 1) := by decide +kernel
theorem d_M_take_7 : decode b_M_take 7 = .ok (.istore 7, 2) := by decide +kernel
theorem d_M_take_9 : decode b_M_take 9 = .ok (.iload 7, 2) := by decide +kernel
theorem d_M_take_11 : decode b_M_take 11 = .ok (.ifCond .lt 48, 3) := by decide +kernel
theorem d_M_take_14 : decode b_M_take 14 = .ok (.iload 5, 2) := by decide +kernel
theorem d_M_take_16 : decode b_M_take 16 = .ok (.aload_n 0, 1) := by decide +kernel
theorem d_M_take_17 : decode b_M_take 17 = .ok (.getfield 7, 3) := by decide +kernel
theorem d_M_take_20 : decode b_M_take 20 = .ok (.iload 7, 2) := by decide +kernel
theorem d_M_take_22 : decode b_M_take 22 = .ok (.baload, 1) := by decide +kernel
theorem d_M_take_23 : decode b_M_take 23 = .ok (.ifCond .eq 7, 3) := by decide +kernel
theorem d_M_take_26 : decode b_M_take 26 = .ok (.iconst 1, 1) := by decide +kernel
theorem d_M_take_27 : decode b_M_take 27 = .ok (.goto 4, 3) := by decide +kernel
theorem d_M_take_30 : decode b_M_take 30 = .ok (.iconst 0, 1) := by decide +kernel
theorem d_M_take_31 : decode b_M_take 31 = .ok (.iadd, 1) := by decide +kernel
theorem d_M_take_32 : decode b_M_take 32 = .ok (.istore 5, 2) := by decide +kernel
theorem d_M_take_34 : decode b_M_take 34 = .ok (.aload_n 0, 1) := by decide +kernel
theorem d_M_take_35 : decode b_M_take 35 = .ok (.getfield 7, 3) := by decide +kernel
theorem d_M_take_38 : decode b_M_take 38 = .ok (.iload 7, 2) := by decide +kernel
theorem d_M_take_40 : decode b_M_take 40 = .ok (.baload, 1) := by decide +kernel
theorem d_M_take_41 : decode b_M_take 41 = .ok (.ifCond .eq 8, 3) := by decide +kernel
theorem d_M_take_44 : decode b_M_take 44 = .ok (.iload 6, 2) := by decide +kernel
theorem d_M_take_46 : decode b_M_take 46 = .ok (.goto 5, 3) := by decide +kernel
theorem d_M_take_49 : decode b_M_take 49 = .ok (.iload 7, 2) := by decide +kernel
theorem d_M_take_51 : decode b_M_take 51 = .ok (.istore 6, 2) := by decide +kernel
theorem d_M_take_53 : decode b_M_take 53 = .ok (.iinc 7 (-1), 3) := by decide +kernel
theorem d_M_take_56 : decode b_M_take 56 = .ok (.goto (-47), 3) := by decide +kernel
theorem d_M_take_59 : decode b_M_take 59 = .ok (.iload 5, 2) := by decide +kernel
theorem d_M_take_61 : decode b_M_take 61 = .ok (.aload_n 0, 1) := by decide +kernel
theorem d_M_take_62 : decode b_M_take 62 = .ok (.getfield 39, 3) := by decide +kernel
theorem d_M_take_65 : decode b_M_take 65 = .ok (.if_icmp .ge 9, 3) := by decide +kernel
theorem d_M_take_68 : decode b_M_take 68 = .ok (.iload 6, 2) := by decide +kernel
theorem d_M_take_70 : decode b_M_take 70 = .ok (.iconst 5, 1) := by decide +kernel
theorem d_M_take_71 : decode b_M_take 71 = .ok (.if_icmp .lt 6, 3) := by decide +kernel
theorem d_M_take_74 : decode b_M_take 74 = .ok (.bipush (-2), 2) := by decide +kernel
theorem d_M_take_76 : decode b_M_take 76 = .ok (.ireturn, 1) := by decide +kernel
theorem d_M_take_77 : decode b_M_take 77 = .ok (.aload_n 0, 1) := by decide +kernel
theorem d_M_take_78 : decode b_M_take 78 = .ok (.getfield 7, 3) := by decide +kernel
theorem d_M_take_81 : decode b_M_take 81 = .ok (.iload 6, 2) := by decide +kernel
theorem d_M_take_83 : decode b_M_take 83 = .ok (.iconst 1, 1) := by decide +kernel
theorem d_M_take_84 : decode b_M_take 84 = .ok (.bastore, 1) := by decide +kernel
theorem d_M_take_85 : decode b_M_take 85 = .ok (.aload_n 0, 1) := by decide +kernel
theorem d_M_take_86 : decode b_M_take 86 = .ok (.getfield 13, 3) := by decide +kernel
theorem d_M_take_89 : decode b_M_take 89 = .ok (.iload 6, 2) := by decide +kernel
theorem d_M_take_91 : decode b_M_take 91 = .ok (.iload_n 1, 1) := by decide +kernel
theorem d_M_take_92 : decode b_M_take 92 = .ok (.iastore, 1) := by decide +kernel
theorem d_M_take_93 : decode b_M_take 93 = .ok (.aload_n 0, 1) := by decide +kernel
theorem d_M_take_94 : decode b_M_take 94 = .ok (.getfield 17, 3) := by decide +kernel
theorem d_M_take_97 : decode b_M_take 97 = .ok (.iload 6, 2) := by decide +kernel
theorem d_M_take_99 : decode b_M_take 99 = .ok (.iload_n 2, 1) := by decide +kernel
theorem d_M_take_100 : decode b_M_take 100 = .ok (.iastore, 1) := by decide +kernel
theorem d_M_take_101 : decode b_M_take 101 = .ok (.aload_n 0, 1) := by decide +kernel
theorem d_M_take_102 : decode b_M_take 102 = .ok (.getfield 20, 3) := by decide +kernel
theorem d_M_take_105 : decode b_M_take 105 = .ok (.iload 6, 2) := by decide +kernel
theorem d_M_take_107 : decode b_M_take 107 = .ok (.iload_n 3, 1) := by decide +kernel
theorem d_M_take_108 : decode b_M_take 108 = .ok (.iastore, 1) := by decide +kernel
theorem d_M_take_109 : decode b_M_take 109 = .ok (.aload_n 0, 1) := by decide +kernel
theorem d_M_take_110 : decode b_M_take 110 = .ok (.getfield 23, 3) := by decide +kernel
theorem d_M_take_113 : decode b_M_take 113 = .ok (.iload 6, 2) := by decide +kernel
theorem d_M_take_115 : decode b_M_take 115 = .ok (.iload 4, 2) := by decide +kernel
theorem d_M_take_117 : decode b_M_take 117 = .ok (.iastore, 1) := by decide +kernel
theorem d_M_take_118 : decode b_M_take 118 = .ok (.aload_n 0, 1) := by decide +kernel
theorem d_M_take_119 : decode b_M_take 119 = .ok (.getfield 26, 3) := by decide +kernel
theorem d_M_take_122 : decode b_M_take 122 = .ok (.iload 6, 2) := by decide +kernel
theorem d_M_take_124 : decode b_M_take 124 = .ok (.iconst 1, 1) := by decide +kernel
theorem d_M_take_125 : decode b_M_take 125 = .ok (.iastore, 1) := by decide +kernel
theorem d_M_take_126 : decode b_M_take 126 = .ok (.aload_n 0, 1) := by decide +kernel
theorem d_M_take_127 : decode b_M_take 127 = .ok (.getfield 29, 3) := by decide +kernel
theorem d_M_take_130 : decode b_M_take 130 = .ok (.iload 6, 2) := by decide +kernel
theorem d_M_take_132 : decode b_M_take 132 = .ok (.iconst 0, 1) := by decide +kernel
theorem d_M_take_133 : decode b_M_take 133 = .ok (.iastore, 1) := by decide +kernel
theorem d_M_take_134 : decode b_M_take 134 = .ok (.aload_n 0, 1) := by decide +kernel
theorem d_M_take_135 : decode b_M_take 135 = .ok (.invokevirtual 73, 3) := by decide +kernel
theorem d_M_take_138 : decode b_M_take 138 = .ok (.ifCond .eq 6, 3) := by decide +kernel
theorem d_M_take_141 : decode b_M_take 141 = .ok (.iload 6, 2) := by decide +kernel
theorem d_M_take_143 : decode b_M_take 143 = .ok (.ireturn, 1) := by decide +kernel
theorem d_M_take_144 : decode b_M_take 144 = .ok (.aload_n 0, 1) := by decide +kernel
theorem d_M_take_145 : decode b_M_take 145 = .ok (.getfield 7, 3) := by decide +kernel
theorem d_M_take_148 : decode b_M_take 148 = .ok (.iload 6, 2) := by decide +kernel
theorem d_M_take_150 : decode b_M_take 150 = .ok (.iconst 0, 1) := by decide +kernel
theorem d_M_take_151 : decode b_M_take 151 = .ok (.bastore, 1) := by decide +kernel
theorem d_M_take_152 : decode b_M_take 152 = .ok (.bipush (-3), 2) := by decide +kernel
theorem d_M_take_154 : decode b_M_take 154 = .ok (.ireturn, 1) := by decide +kernel
def EntM (cp : Nat) (cap : Int) (pr : Nat) (mi : Int) (mb : Nat) (N : Nat → Nat → Nat) (rr p k d : Nat) (res : Int32) (pr' : Nat) (N' : Nat → Nat → Nat) : Prop :=
  (res = (-2) ∧ pr' = pr ∧ N' = N ∧ (cp ≤ sm pr (fun _ => 1) ∨ ∀ j, j < 5 → pr.testBit j = true)) ∨ ∃ i, i < 5 ∧ sm pr (fun _ => 1) < cp ∧ pr.testBit i = false ∧ (∀ j, j < i → pr.testBit j = true) ∧ ((res = nI i ∧ pr' = pr ||| 2 ^ i ∧ N' = takN N i rr p k d ∧ FM (pr ||| 2 ^ i) N' mi mb cap) ∨ (res = (-3) ∧ pr' = pr ∧ N' = helN (takN N i rr p k d) i 0 ∧ ¬ FM (pr ||| 2 ^ i) (takN N i rr p k d) mi mb cap))
set_option maxHeartbeats 4000000 in
set_option maxRecDepth 100000 in
/-- take(r, p, k, d) -/
theorem c_M_take (l : Launch) (D : va_G) (h : Nat → Nat) (cs : Nat → ClassId) {cp : Nat} {cap : Int} {fu : Nat} {fd mi : Int} {mb : Nat} {N : Nat → Nat → Nat} {B : Nat → Int} (hcp : cp ≤ 5) {pr : Nat} (hpr : pr < 32) (hM : okM pr N) (hmi : -1 ≤ mi ∧ mi < 5) (hmb : mb ≤ 60) (hcap : -200 ≤ cap ∧ cap ≤ 1000) {r p k dd : Nat} (hr : r ≤ 18) (hp1 : 1 ≤ p) (hp3 : p ≤ 3) (hk : k ≤ 3) (hdd : dd ≤ 30) : CI l y_M_take b_M_take 8 .int 4 D (tysM cs) (wM h cs) (cp, cap, fu, fd, mi, mb, N, B) [.ref (h 0), .int (nI r), .int (nI p), .int (nI k), .int (nI dd)] (fun res u' => ∃ pr' N' fu' fd' B', u' = (cp, cap, fu', fd', mi, mb, N', B') ∧ EntM cp cap pr mi mb N r p k dd res pr' N') := by
  refine CI_of ok_M_take (Nat.le_of_ble_eq_true rfl) (cat_all rfl) ?_
  intro K C hret
  have C : Kok D (tysM cs) K b_M_take 8 R_M 4 := C
  refine j_iconst C d_M_take_0 (v := nI 0) (by decide) ?_
  refine j_istore C d_M_take_1 (Nat.le_of_ble_eq_true rfl) (Nat.le_of_ble_eq_true rfl) (L' := [.ref (h 0), .int (nI r), .int (nI p), .int (nI k), .int (nI dd), .int (nI 0)]) rfl ?_
  refine j_iconst C d_M_take_3 (v := nI 5) (by decide) ?_
  refine j_istore C d_M_take_4 (Nat.le_of_ble_eq_true rfl) (Nat.le_of_ble_eq_true rfl) (L' := [.ref (h 0), .int (nI r), .int (nI p), .int (nI k), .int (nI dd), .int (nI 0), .int (nI 5)]) rfl ?_
  refine j_iconst C d_M_take_6 (v := nI 4) (by decide) ?_
  refine j_istore C d_M_take_7 (Nat.le_of_ble_eq_true rfl) (Nat.le_of_ble_eq_true rfl) (L' := [.ref (h 0), .int (nI r), .int (nI p), .int (nI k), .int (nI dd), .int (nI 0), .int (nI 5), .int (nI 4)]) rfl ?_
  have key : ∀ m : Nat, m ≤ 5 → ∀ n id, TKP pr m n id → J l D K (wM h cs) (cp, cap, fu, fd, mi, mb, N, B) 9 [.ref (h 0), .int (nI r), .int (nI p), .int (nI k), .int (nI dd), .int (nI n), .int (nI id), .int (iI (((m : Nat) : Int) - 1))] [] := by
    intro m
    induction m with
    | zero =>
      intro _ n id hF
      have hbd := TKP_bd hF
      have hn : n = sm pr (fun _ => 1) := hF.1.trans (sm_congr fun j _ _ => if_pos (Nat.zero_le _))
      refine j_iload C d_M_take_9 (x := iI (((0 : Nat) : Int) - 1)) rfl ?_
      refine j_if_lt C d_M_take_11 (tgt := 59) (by decide) (iI_toInt (z := ((0 : Nat) : Int) - 1) (by omega) (by omega)) (fun c_11 => ?_) (fun c_11 => ?_)
      · refine j_iload C d_M_take_59 (x := nI n) rfl ?_
        refine j_aload_n C d_M_take_61 (a := h 0) rfl ?_
        refine m_get C 0 (v := .int (nI cp)) d_M_take_62 (by decide) fl_M_0 rfl ?_
        refine j_icmp_ge C d_M_take_65 (tgt := 74) (by decide) (tI n (by omega)) (tI cp (by omega)) (fun c_65 => ?_) (fun c_65 => ?_)
        · refine j_bipush C d_M_take_74 (v := (-2)) (by decide) ?_
          exact hret _ _ _ _ d_M_take_76 rfl ⟨pr, N, fu, fd, B, rfl, Or.inl ⟨rfl, rfl, rfl, by first | (exact Or.inl (by omega)) | exact Or.inr (fun q hq => by rcases hF.2 with z | z; exact z.2 q (Nat.zero_le _) hq; omega)⟩⟩
        · refine j_iload C d_M_take_68 (x := nI id) rfl ?_
          refine j_iconst C d_M_take_70 (v := nI 5) (by decide) ?_
          refine j_icmp_lt C d_M_take_71 (tgt := 77) (by decide) (tI id (by omega)) (tI 5 (by decide)) (fun c_71 => ?_) (fun c_71 => ?_)
          · obtain ⟨-, hid, hbi, hbl⟩ := hF.2.resolve_left (fun z => by omega)
            have hp2 := pow_lt hid
            have hor := or_lt hpr hp2
            have hbl2 : ∀ q, q < id → pr.testBit q = true := fun q hq => hbl q (Nat.zero_le _) hq
            refine j_aload_n C d_M_take_77 (a := h 0) rfl ?_
            refine m_get C 2 (v := .ref (h 1)) d_M_take_78 (by decide) fl_M_2 rfl ?_
            refine j_iload C d_M_take_81 (x := nI id) rfl ?_
            refine j_iconst C d_M_take_83 (v := nI 1) (by decide) ?_
            refine j_zast C 1 0 (g := N 1) (i := id) (v := 1) (u' := (cp, cap, fu, fd, mi, mb, va_up N 1 (va_up (N 1) id 1), B)) d_M_take_84 rfl rfl (by omega) (by decide) (by omega) rfl ?_
            refine j_aload_n C d_M_take_85 (a := h 0) rfl ?_
            refine m_get C 3 (v := .ref (h 2)) d_M_take_86 (by decide) fl_M_3 rfl ?_
            refine j_iload C d_M_take_89 (x := nI id) rfl ?_
            refine j_iload_n C d_M_take_91 (x := nI r) rfl ?_
            refine j_iast C 2 1 nI (g := N 2) (i := id) (v := r) (u' := (cp, cap, fu, fd, mi, mb, va_up (va_up N 1 (va_up (N 1) id 1)) 2 (va_up (N 2) id r), B)) d_M_take_92 rfl rfl (by omega) (by decide) rfl ?_
            refine j_aload_n C d_M_take_93 (a := h 0) rfl ?_
            refine m_get C 4 (v := .ref (h 3)) d_M_take_94 (by decide) fl_M_4 rfl ?_
            refine j_iload C d_M_take_97 (x := nI id) rfl ?_
            refine j_iload_n C d_M_take_99 (x := nI p) rfl ?_
            refine j_iast C 3 2 nI (g := N 3) (i := id) (v := p) (u' := (cp, cap, fu, fd, mi, mb, va_up (va_up (va_up N 1 (va_up (N 1) id 1)) 2 (va_up (N 2) id r)) 3 (va_up (N 3) id p), B)) d_M_take_100 rfl rfl (by omega) (by decide) rfl ?_
            refine j_aload_n C d_M_take_101 (a := h 0) rfl ?_
            refine m_get C 5 (v := .ref (h 4)) d_M_take_102 (by decide) fl_M_5 rfl ?_
            refine j_iload C d_M_take_105 (x := nI id) rfl ?_
            refine j_iload_n C d_M_take_107 (x := nI k) rfl ?_
            refine j_iast C 4 3 nI (g := N 4) (i := id) (v := k) (u' := (cp, cap, fu, fd, mi, mb, va_up (va_up (va_up (va_up N 1 (va_up (N 1) id 1)) 2 (va_up (N 2) id r)) 3 (va_up (N 3) id p)) 4 (va_up (N 4) id k), B)) d_M_take_108 rfl rfl (by omega) (by decide) rfl ?_
            refine j_aload_n C d_M_take_109 (a := h 0) rfl ?_
            refine m_get C 6 (v := .ref (h 5)) d_M_take_110 (by decide) fl_M_6 rfl ?_
            refine j_iload C d_M_take_113 (x := nI id) rfl ?_
            refine j_iload C d_M_take_115 (x := nI dd) rfl ?_
            refine j_iast C 5 4 nI (g := N 5) (i := id) (v := dd) (u' := (cp, cap, fu, fd, mi, mb, va_up (va_up (va_up (va_up (va_up N 1 (va_up (N 1) id 1)) 2 (va_up (N 2) id r)) 3 (va_up (N 3) id p)) 4 (va_up (N 4) id k)) 5 (va_up (N 5) id dd), B)) d_M_take_117 rfl rfl (by omega) (by decide) rfl ?_
            refine j_aload_n C d_M_take_118 (a := h 0) rfl ?_
            refine m_get C 7 (v := .ref (h 6)) d_M_take_119 (by decide) fl_M_7 rfl ?_
            refine j_iload C d_M_take_122 (x := nI id) rfl ?_
            refine j_iconst C d_M_take_124 (v := nI 1) (by decide) ?_
            refine j_iast C 6 5 nI (g := N 6) (i := id) (v := 1) (u' := (cp, cap, fu, fd, mi, mb, va_up (va_up (va_up (va_up (va_up (va_up N 1 (va_up (N 1) id 1)) 2 (va_up (N 2) id r)) 3 (va_up (N 3) id p)) 4 (va_up (N 4) id k)) 5 (va_up (N 5) id dd)) 6 (va_up (N 6) id 1), B)) d_M_take_125 rfl rfl (by omega) (by decide) rfl ?_
            refine j_aload_n C d_M_take_126 (a := h 0) rfl ?_
            refine m_get C 8 (v := .ref (h 7)) d_M_take_127 (by decide) fl_M_8 rfl ?_
            refine j_iload C d_M_take_130 (x := nI id) rfl ?_
            refine j_iconst C d_M_take_132 (v := nI 0) (by decide) ?_
            refine j_iast C 7 6 nI (g := N 7) (i := id) (v := 0) (u' := (cp, cap, fu, fd, mi, mb, va_up (va_up (va_up (va_up (va_up (va_up (va_up N 1 (va_up (N 1) id 1)) 2 (va_up (N 2) id r)) 3 (va_up (N 3) id p)) 4 (va_up (N 4) id k)) 5 (va_up (N 5) id dd)) 6 (va_up (N 6) id 1)) 7 (va_up (N 7) id 0), B)) d_M_take_133 rfl rfl (by omega) (by decide) rfl ?_
            refine j_aload_n C d_M_take_134 (a := h 0) rfl ?_
            refine j_calli C (c_M_good l D h cs (N := takN N id r p k dd) (mi := mi) (mb := mb) (pr := pr ||| 2 ^ id) hor (okM_tak hM hr hp3 hk hdd) hmi hmb hcap) (As := []) (rest := []) ok_M_good ml_M_73 (by decide) d_M_take_135 (q0 := 0) rfl rfl rfl rfl (Nat.le_of_ble_eq_true rfl) ?_
            intro r_135 u' hq3
            obtain ⟨⟨fu', fd', B', rfl⟩, hp_135⟩ := hq3
            refine j_if_eq C d_M_take_138 (tgt := 144) (by decide) (rfl) (fun c_138 => ?_) (fun c_138 => ?_)
            · have t_138 := bool_f hp_135 c_138
              refine j_aload_n C d_M_take_144 (a := h 0) rfl ?_
              refine m_get C 2 (v := .ref (h 1)) d_M_take_145 (by decide) fl_M_2 rfl ?_
              refine j_iload C d_M_take_148 (x := nI id) rfl ?_
              refine j_iconst C d_M_take_150 (v := nI 0) (by decide) ?_
              refine j_zast C 1 0 (g := va_up (N 1) id 1) (i := id) (v := 0) (u' := (cp, cap, fu', fd', mi, mb, va_up (takN N id r p k dd) 1 (va_up (va_up (N 1) id 1) id 0), B')) d_M_take_151 rfl rfl (by omega) (by decide) (by omega) rfl ?_
              refine j_bipush C d_M_take_152 (v := (-3)) (by decide) ?_
              exact hret _ _ _ _ d_M_take_154 rfl ⟨_, _, fu', fd', B', rfl, Or.inr ⟨id, hid, by omega, hbi, hbl2, Or.inr ⟨rfl, rfl, rfl, t_138⟩⟩⟩
            · have t_138 := bool_t hp_135 c_138
              refine j_iload C d_M_take_141 (x := nI id) rfl ?_
              exact hret _ _ _ _ d_M_take_143 rfl ⟨_, _, fu', fd', B', rfl, Or.inr ⟨id, hid, by omega, hbi, hbl2, Or.inl ⟨rfl, rfl, rfl, t_138⟩⟩⟩
          · refine j_bipush C d_M_take_74 (v := (-2)) (by decide) ?_
            exact hret _ _ _ _ d_M_take_76 rfl ⟨pr, N, fu, fd, B, rfl, Or.inl ⟨rfl, rfl, rfl, by first | (exact Or.inl (by omega)) | exact Or.inr (fun q hq => by rcases hF.2 with z | z; exact z.2 q (Nat.zero_le _) hq; omega)⟩⟩
      · exact absurd c_11 (by omega)
    | succ m ih =>
      intro hm n id hF
      have hbd := TKP_bd hF
      rw [m_pred m]
      refine j_iload C d_M_take_9 (x := nI m) rfl ?_
      refine j_if_lt C d_M_take_11 (tgt := 59) (by decide) (tI m (by omega)) (fun c_11 => ?_) (fun c_11 => ?_)
      · exact absurd c_11 (by omega)
      · refine j_iload C d_M_take_14 (x := nI n) rfl ?_
        refine j_aload_n C d_M_take_16 (a := h 0) rfl ?_
        refine m_get C 2 (v := .ref (h 1)) d_M_take_17 (by decide) fl_M_2 rfl ?_
        refine j_iload C d_M_take_20 (x := nI m) rfl ?_
        refine j_zald C 1 0 (f := fun ξ => nI ((N 1) ξ)) (i := m) (v := nI (N 1 m)) d_M_take_22 rfl rfl (by omega) (by decide) rfl ?_
        have q_22 := held_1 hM (show m < 5 by omega)
        refine j_if_eq C d_M_take_23 (tgt := 30) (by decide) (tI (N 1 m) (by omega)) (fun c_23 => ?_) (fun c_23 => ?_)
        · refine j_iconst C d_M_take_30 (v := nI 0) (by decide) ?_
          refine j_iadd C d_M_take_31 (z := nI (n + 0)) (nI_add _ _) ?_
          refine j_istore C d_M_take_32 (Nat.le_of_ble_eq_true rfl) (Nat.le_of_ble_eq_true rfl) (L' := [.ref (h 0), .int (nI r), .int (nI p), .int (nI k), .int (nI dd), .int (nI (n + 0)), .int (nI id), .int (nI m)]) rfl ?_
          refine j_aload_n C d_M_take_34 (a := h 0) rfl ?_
          refine m_get C 2 (v := .ref (h 1)) d_M_take_35 (by decide) fl_M_2 rfl ?_
          refine j_iload C d_M_take_38 (x := nI m) rfl ?_
          refine j_zald C 1 0 (f := fun ξ => nI ((N 1) ξ)) (i := m) (v := nI (N 1 m)) d_M_take_40 rfl rfl (by omega) (by decide) rfl ?_
          have q_40 := held_1 hM (show m < 5 by omega)
          refine j_if_eq C d_M_take_41 (tgt := 49) (by decide) (tI (N 1 m) (by omega)) (fun c_41 => ?_) (fun c_41 => ?_)
          · refine j_iload C d_M_take_49 (x := nI m) rfl ?_
            refine j_istore C d_M_take_51 (Nat.le_of_ble_eq_true rfl) (Nat.le_of_ble_eq_true rfl) (L' := [.ref (h 0), .int (nI r), .int (nI p), .int (nI k), .int (nI dd), .int (nI (n + 0)), .int (nI m), .int (nI m)]) rfl ?_
            refine j_iinc C d_M_take_53 (Nat.le_of_ble_eq_true rfl) (x := nI m) (v := iI ((m : Int) - 1)) rfl (nI_dec _) (L' := [.ref (h 0), .int (nI r), .int (nI p), .int (nI k), .int (nI dd), .int (nI (n + 0)), .int (nI m), .int (iI ((m : Int) - 1))]) rfl ?_
            refine j_goto C d_M_take_56 (tgt := 9) (by decide) ?_
            first | (exfalso; omega) | exact ih (by omega) _ _ (TKP_t (by omega) hF (held_t hM (by omega) c_23)) | exact ih (by omega) _ _ (TKP_f (by omega) hF (held_f hM (by omega) c_23))
          · refine j_iload C d_M_take_44 (x := nI id) rfl ?_
            refine j_goto C d_M_take_46 (tgt := 51) (by decide) ?_
            refine j_istore C d_M_take_51 (Nat.le_of_ble_eq_true rfl) (Nat.le_of_ble_eq_true rfl) (L' := [.ref (h 0), .int (nI r), .int (nI p), .int (nI k), .int (nI dd), .int (nI (n + 0)), .int (nI id), .int (nI m)]) rfl ?_
            refine j_iinc C d_M_take_53 (Nat.le_of_ble_eq_true rfl) (x := nI m) (v := iI ((m : Int) - 1)) rfl (nI_dec _) (L' := [.ref (h 0), .int (nI r), .int (nI p), .int (nI k), .int (nI dd), .int (nI (n + 0)), .int (nI id), .int (iI ((m : Int) - 1))]) rfl ?_
            refine j_goto C d_M_take_56 (tgt := 9) (by decide) ?_
            first | (exfalso; omega) | exact ih (by omega) _ _ (TKP_t (by omega) hF (held_t hM (by omega) c_23)) | exact ih (by omega) _ _ (TKP_f (by omega) hF (held_f hM (by omega) c_23))
        · refine j_iconst C d_M_take_26 (v := nI 1) (by decide) ?_
          refine j_goto C d_M_take_27 (tgt := 31) (by decide) ?_
          refine j_iadd C d_M_take_31 (z := nI (n + 1)) (nI_add _ _) ?_
          refine j_istore C d_M_take_32 (Nat.le_of_ble_eq_true rfl) (Nat.le_of_ble_eq_true rfl) (L' := [.ref (h 0), .int (nI r), .int (nI p), .int (nI k), .int (nI dd), .int (nI (n + 1)), .int (nI id), .int (nI m)]) rfl ?_
          refine j_aload_n C d_M_take_34 (a := h 0) rfl ?_
          refine m_get C 2 (v := .ref (h 1)) d_M_take_35 (by decide) fl_M_2 rfl ?_
          refine j_iload C d_M_take_38 (x := nI m) rfl ?_
          refine j_zald C 1 0 (f := fun ξ => nI ((N 1) ξ)) (i := m) (v := nI (N 1 m)) d_M_take_40 rfl rfl (by omega) (by decide) rfl ?_
          have q_40 := held_1 hM (show m < 5 by omega)
          refine j_if_eq C d_M_take_41 (tgt := 49) (by decide) (tI (N 1 m) (by omega)) (fun c_41 => ?_) (fun c_41 => ?_)
          · refine j_iload C d_M_take_49 (x := nI m) rfl ?_
            refine j_istore C d_M_take_51 (Nat.le_of_ble_eq_true rfl) (Nat.le_of_ble_eq_true rfl) (L' := [.ref (h 0), .int (nI r), .int (nI p), .int (nI k), .int (nI dd), .int (nI (n + 1)), .int (nI m), .int (nI m)]) rfl ?_
            refine j_iinc C d_M_take_53 (Nat.le_of_ble_eq_true rfl) (x := nI m) (v := iI ((m : Int) - 1)) rfl (nI_dec _) (L' := [.ref (h 0), .int (nI r), .int (nI p), .int (nI k), .int (nI dd), .int (nI (n + 1)), .int (nI m), .int (iI ((m : Int) - 1))]) rfl ?_
            refine j_goto C d_M_take_56 (tgt := 9) (by decide) ?_
            first | (exfalso; omega) | exact ih (by omega) _ _ (TKP_t (by omega) hF (held_t hM (by omega) c_23)) | exact ih (by omega) _ _ (TKP_f (by omega) hF (held_f hM (by omega) c_23))
          · refine j_iload C d_M_take_44 (x := nI id) rfl ?_
            refine j_goto C d_M_take_46 (tgt := 51) (by decide) ?_
            refine j_istore C d_M_take_51 (Nat.le_of_ble_eq_true rfl) (Nat.le_of_ble_eq_true rfl) (L' := [.ref (h 0), .int (nI r), .int (nI p), .int (nI k), .int (nI dd), .int (nI (n + 1)), .int (nI id), .int (nI m)]) rfl ?_
            refine j_iinc C d_M_take_53 (Nat.le_of_ble_eq_true rfl) (x := nI m) (v := iI ((m : Int) - 1)) rfl (nI_dec _) (L' := [.ref (h 0), .int (nI r), .int (nI p), .int (nI k), .int (nI dd), .int (nI (n + 1)), .int (nI id), .int (iI ((m : Int) - 1))]) rfl ?_
            refine j_goto C d_M_take_56 (tgt := 9) (by decide) ?_
            first | (exfalso; omega) | exact ih (by omega) _ _ (TKP_t (by omega) hF (held_t hM (by omega) c_23)) | exact ih (by omega) _ _ (TKP_f (by omega) hF (held_f hM (by omega) c_23))
  rw [← m_pred 4]
  exact key 5 (by omega) 0 5 (TKP_5 pr)
theorem d_M_add_0 : decode b_M_add 0 = .ok (.iload_n 1, 1) := by decide +kernel
theorem d_M_add_1 : decode b_M_add 1 = .ok (.ifCond .lt 19, 3) := by decide +kernel
theorem d_M_add_4 : decode b_M_add 4 = .ok (.iload_n 1, 1) := by decide +kernel
theorem d_M_add_5 : decode b_M_add 5 = .ok (.bipush 9, 2) := by decide +kernel
theorem d_M_add_7 : decode b_M_add 7 = .ok (.if_icmp .gt 13, 3) := by decide +kernel
theorem d_M_add_10 : decode b_M_add 10 = .ok (.iload_n 2, 1) := by decide +kernel
theorem d_M_add_11 : decode b_M_add 11 = .ok (.iconst 1, 1) := by decide +kernel
theorem d_M_add_12 : decode b_M_add 12 = .ok (.if_icmp .lt 8, 3) := by decide +kernel
theorem d_M_add_15 : decode b_M_add 15 = .ok (.iload_n 2, 1) := by decide +kernel
theorem d_M_add_16 : decode b_M_add 16 = .ok (.iconst 3, 1) := by decide +kernel
theorem d_M_add_17 : decode b_M_add 17 = .ok (.if_icmp .le 5, 3) := by decide +kernel
theorem d_M_add_20 : decode b_M_add 20 = .ok (.iconst (-1), 1) := by decide +kernel
theorem d_M_add_21 : decode b_M_add 21 = .ok (.ireturn, 1) := by decide +kernel
theorem d_M_add_22 : decode b_M_add 22 = .ok (.aload_n 0, 1) := by decide +kernel
theorem d_M_add_23 : decode b_M_add 23 = .ok (.iload_n 1, 1) := by decide +kernel
theorem d_M_add_24 : decode b_M_add 24 = .ok (.iload_n 2, 1) := by decide +kernel
theorem d_M_add_25 : decode b_M_add 25 = .ok (.iconst 0, 1) := by decide +kernel
theorem d_M_add_26 : decode b_M_add 26 = .ok (.iconst 0, 1) := by decide +kernel
theorem d_M_add_27 : decode b_M_add 27 = .ok (.invokevirtual 69, 3) := by decide +kernel
theorem d_M_add_30 : decode b_M_add 30 = .ok (.ireturn, 1) := by decide +kernel
def AddM (cp : Nat) (cap : Int) (pr : Nat) (mi : Int) (mb : Nat) (N : Nat → Nat → Nat) (x y res : Int32) (pr' : Nat) (N' : Nat → Nat → Nat) : Prop := (res = (-1) ∧ pr' = pr ∧ N' = N ∧ ¬ (0 ≤ x.toInt ∧ x.toInt ≤ 9 ∧ 1 ≤ y.toInt ∧ y.toInt ≤ 3)) ∨ ∃ r p, x = nI r ∧ y = nI p ∧ r ≤ 9 ∧ 1 ≤ p ∧ p ≤ 3 ∧ EntM cp cap pr mi mb N r p 0 0 res pr' N'
set_option maxHeartbeats 4000000 in
set_option maxRecDepth 100000 in
/-- add(x, y) -/
theorem c_M_add (l : Launch) (D : va_G) (h : Nat → Nat) (cs : Nat → ClassId) {cp : Nat} {cap : Int} {fu : Nat} {fd mi : Int} {mb : Nat} {N : Nat → Nat → Nat} {B : Nat → Int} (hcp : cp ≤ 5) {pr : Nat} (hpr : pr < 32) (hM : okM pr N) (hmi : -1 ≤ mi ∧ mi < 5) (hmb : mb ≤ 60) (hcap : -200 ≤ cap ∧ cap ≤ 1000) (x y : Int32) : CI l y_M_add b_M_add 3 .int 5 D (tysM cs) (wM h cs) (cp, cap, fu, fd, mi, mb, N, B) [.ref (h 0), .int x, .int y] (fun res u' => ∃ pr' N' fu' fd' B', u' = (cp, cap, fu', fd', mi, mb, N', B') ∧ AddM cp cap pr mi mb N x y res pr' N') := by
  refine CI_of ok_M_add (Nat.le_of_ble_eq_true rfl) (cat_all rfl) ?_
  intro K C hret
  have C : Kok D (tysM cs) K b_M_add 3 R_M 5 := C
  refine j_iload_n C d_M_add_0 (x := x) rfl ?_
  refine j_if_lt C d_M_add_1 (tgt := 20) (by decide) (rfl) (fun c_1 => ?_) (fun c_1 => ?_)
  · refine j_iconst C d_M_add_20 (v := (-1)) (by decide) ?_
    exact hret _ _ _ _ d_M_add_21 rfl ⟨pr, N, fu, fd, B, rfl, Or.inl ⟨rfl, rfl, rfl, by omega⟩⟩
  · refine j_iload_n C d_M_add_4 (x := x) rfl ?_
    refine j_bipush C d_M_add_5 (v := nI 9) (by decide) ?_
    refine j_icmp_gt C d_M_add_7 (tgt := 20) (by decide) (rfl) (tI 9 (by decide)) (fun c_7 => ?_) (fun c_7 => ?_)
    · refine j_iconst C d_M_add_20 (v := (-1)) (by decide) ?_
      exact hret _ _ _ _ d_M_add_21 rfl ⟨pr, N, fu, fd, B, rfl, Or.inl ⟨rfl, rfl, rfl, by omega⟩⟩
    · refine j_iload_n C d_M_add_10 (x := y) rfl ?_
      refine j_iconst C d_M_add_11 (v := nI 1) (by decide) ?_
      refine j_icmp_lt C d_M_add_12 (tgt := 20) (by decide) (rfl) (tI 1 (by decide)) (fun c_12 => ?_) (fun c_12 => ?_)
      · refine j_iconst C d_M_add_20 (v := (-1)) (by decide) ?_
        exact hret _ _ _ _ d_M_add_21 rfl ⟨pr, N, fu, fd, B, rfl, Or.inl ⟨rfl, rfl, rfl, by omega⟩⟩
      · refine j_iload_n C d_M_add_15 (x := y) rfl ?_
        refine j_iconst C d_M_add_16 (v := nI 3) (by decide) ?_
        refine j_icmp_le C d_M_add_17 (tgt := 22) (by decide) (rfl) (tI 3 (by decide)) (fun c_17 => ?_) (fun c_17 => ?_)
        · obtain ⟨r, hr, rfl⟩ := of_rng (n := 10) c_1 (by omega)
          obtain ⟨p, hp, rfl⟩ := of_rng (x := y) (n := 4) (by omega) (by omega)
          rw [tI p (by omega)] at c_12
          refine j_aload_n C d_M_add_22 (a := h 0) rfl ?_
          refine j_iload_n C d_M_add_23 (x := nI r) rfl ?_
          refine j_iload_n C d_M_add_24 (x := nI p) rfl ?_
          refine j_iconst C d_M_add_25 (v := nI 0) (by decide) ?_
          refine j_iconst C d_M_add_26 (v := nI 0) (by decide) ?_
          refine j_calli C (c_M_take l D h cs hcp hpr hM hmi hmb hcap (r := r) (p := p) (k := 0) (dd := 0) (by omega) (by omega) (by omega) (by omega) (by omega)) (As := [.int (nI r), .int (nI p), .int (nI 0), .int (nI 0)]) (rest := []) ok_M_take ml_M_69 (by decide) d_M_add_27 (q0 := 0) rfl rfl rfl rfl (Nat.le_of_ble_eq_true rfl) ?_
          intro res u' hq
          obtain ⟨pr', N', fu', fd', B', rfl, hE⟩ := hq
          exact hret _ _ _ _ d_M_add_30 rfl ⟨pr', N', fu', fd', B', rfl, Or.inr ⟨r, p, rfl, rfl, by omega, by omega, by omega, hE⟩⟩
        · refine j_iconst C d_M_add_20 (v := (-1)) (by decide) ?_
          exact hret _ _ _ _ d_M_add_21 rfl ⟨pr, N, fu, fd, B, rfl, Or.inl ⟨rfl, rfl, rfl, by omega⟩⟩
theorem d_M_addRuled_0 : decode b_M_addRuled 0 = .ok (.iload_n 1, 1) := by decide +kernel
theorem d_M_addRuled_1 : decode b_M_addRuled 1 = .ok (.iconst 1, 1) := by decide +kernel
theorem d_M_addRuled_2 : decode b_M_addRuled 2 = .ok (.if_icmp .lt 27, 3) := by decide +kernel
theorem d_M_addRuled_5 : decode b_M_addRuled 5 = .ok (.iload_n 1, 1) := by decide +kernel
theorem d_M_addRuled_6 : decode b_M_addRuled 6 = .ok (.iconst 3, 1) := by decide +kernel
theorem d_M_addRuled_7 : decode b_M_addRuled 7 = .ok (.if_icmp .gt 22, 3) := by decide +kernel
theorem d_M_addRuled_10 : decode b_M_addRuled 10 = .ok (.iload_n 2, 1) := by decide +kernel
theorem d_M_addRuled_11 : decode b_M_addRuled 11 = .ok (.ifCond .lt 18, 3) := by decide +kernel
theorem d_M_addRuled_14 : decode b_M_addRuled 14 = .ok (.iload_n 2, 1) := by decide +kernel
theorem d_M_addRuled_15 : decode b_M_addRuled 15 = .ok (.iconst 3, 1) := by decide +kernel
theorem d_M_addRuled_16 : decode b_M_addRuled 16 = .ok (.if_icmp .gt 13, 3) := by decide +kernel
theorem d_M_addRuled_19 : decode b_M_addRuled 19 = .ok (.iload_n 3, 1) := by decide +kernel
theorem d_M_addRuled_20 : decode b_M_addRuled 20 = .ok (.ifCond .lt 9, 3) := by decide +kernel
theorem d_M_addRuled_23 : decode b_M_addRuled 23 = .ok (.iload_n 3, 1) := by decide +kernel
theorem d_M_addRuled_24 : decode b_M_addRuled 24 = .ok (.bipush 30, 2) := by decide +kernel
theorem d_M_addRuled_26 : decode b_M_addRuled 26 = .ok (.if_icmp .le 5, 3) := by decide +kernel
theorem d_M_addRuled_29 : decode b_M_addRuled 29 = .ok (.iconst (-1), 1) := by decide +kernel
theorem d_M_addRuled_30 : decode b_M_addRuled 30 = .ok (.ireturn, 1) := by decide +kernel
theorem d_M_addRuled_31 : decode b_M_addRuled 31 = .ok (.aload_n 0, 1) := by decide +kernel
theorem d_M_addRuled_32 : decode b_M_addRuled 32 = .ok (.iconst 0, 1) := by decide +kernel
theorem d_M_addRuled_33 : decode b_M_addRuled 33 = .ok (.iload_n 1, 1) := by decide +kernel
theorem d_M_addRuled_34 : decode b_M_addRuled 34 = .ok (.iload_n 2, 1) := by decide +kernel
theorem d_M_addRuled_35 : decode b_M_addRuled 35 = .ok (.iload_n 3, 1) := by decide +kernel
theorem d_M_addRuled_36 : decode b_M_addRuled 36 = .ok (.invokevirtual 69, 3) := by decide +kernel
theorem d_M_addRuled_39 : decode b_M_addRuled 39 = .ok (.ireturn, 1) := by decide +kernel
def AddRM (cp : Nat) (cap : Int) (pr : Nat) (mi : Int) (mb : Nat) (N : Nat → Nat → Nat) (x y z res : Int32) (pr' : Nat) (N' : Nat → Nat → Nat) : Prop := (res = (-1) ∧ pr' = pr ∧ N' = N ∧ ¬ (1 ≤ x.toInt ∧ x.toInt ≤ 3 ∧ 0 ≤ y.toInt ∧ y.toInt ≤ 3 ∧ 0 ≤ z.toInt ∧ z.toInt ≤ 30)) ∨ ∃ p k d, x = nI p ∧ y = nI k ∧ z = nI d ∧ 1 ≤ p ∧ p ≤ 3 ∧ k ≤ 3 ∧ d ≤ 30 ∧ EntM cp cap pr mi mb N 0 p k d res pr' N'
set_option maxHeartbeats 4000000 in
set_option maxRecDepth 100000 in
/-- addRuled(x, y, z) -/
theorem c_M_addRuled (l : Launch) (D : va_G) (h : Nat → Nat) (cs : Nat → ClassId) {cp : Nat} {cap : Int} {fu : Nat} {fd mi : Int} {mb : Nat} {N : Nat → Nat → Nat} {B : Nat → Int} (hcp : cp ≤ 5) {pr : Nat} (hpr : pr < 32) (hM : okM pr N) (hmi : -1 ≤ mi ∧ mi < 5) (hmb : mb ≤ 60) (hcap : -200 ≤ cap ∧ cap ≤ 1000) (x y z : Int32) : CI l y_M_addRuled b_M_addRuled 4 .int 5 D (tysM cs) (wM h cs) (cp, cap, fu, fd, mi, mb, N, B) [.ref (h 0), .int x, .int y, .int z] (fun res u' => ∃ pr' N' fu' fd' B', u' = (cp, cap, fu', fd', mi, mb, N', B') ∧ AddRM cp cap pr mi mb N x y z res pr' N') := by
  refine CI_of ok_M_addRuled (Nat.le_of_ble_eq_true rfl) (cat_all rfl) ?_
  intro K C hret
  have C : Kok D (tysM cs) K b_M_addRuled 4 R_M 5 := C
  refine j_iload_n C d_M_addRuled_0 (x := x) rfl ?_
  refine j_iconst C d_M_addRuled_1 (v := nI 1) (by decide) ?_
  refine j_icmp_lt C d_M_addRuled_2 (tgt := 29) (by decide) (rfl) (tI 1 (by decide)) (fun c_2 => ?_) (fun c_2 => ?_)
  · refine j_iconst C d_M_addRuled_29 (v := (-1)) (by decide) ?_
    exact hret _ _ _ _ d_M_addRuled_30 rfl ⟨pr, N, fu, fd, B, rfl, Or.inl ⟨rfl, rfl, rfl, by omega⟩⟩
  · refine j_iload_n C d_M_addRuled_5 (x := x) rfl ?_
    refine j_iconst C d_M_addRuled_6 (v := nI 3) (by decide) ?_
    refine j_icmp_gt C d_M_addRuled_7 (tgt := 29) (by decide) (rfl) (tI 3 (by decide)) (fun c_7 => ?_) (fun c_7 => ?_)
    · refine j_iconst C d_M_addRuled_29 (v := (-1)) (by decide) ?_
      exact hret _ _ _ _ d_M_addRuled_30 rfl ⟨pr, N, fu, fd, B, rfl, Or.inl ⟨rfl, rfl, rfl, by omega⟩⟩
    · refine j_iload_n C d_M_addRuled_10 (x := y) rfl ?_
      refine j_if_lt C d_M_addRuled_11 (tgt := 29) (by decide) (rfl) (fun c_11 => ?_) (fun c_11 => ?_)
      · refine j_iconst C d_M_addRuled_29 (v := (-1)) (by decide) ?_
        exact hret _ _ _ _ d_M_addRuled_30 rfl ⟨pr, N, fu, fd, B, rfl, Or.inl ⟨rfl, rfl, rfl, by omega⟩⟩
      · refine j_iload_n C d_M_addRuled_14 (x := y) rfl ?_
        refine j_iconst C d_M_addRuled_15 (v := nI 3) (by decide) ?_
        refine j_icmp_gt C d_M_addRuled_16 (tgt := 29) (by decide) (rfl) (tI 3 (by decide)) (fun c_16 => ?_) (fun c_16 => ?_)
        · refine j_iconst C d_M_addRuled_29 (v := (-1)) (by decide) ?_
          exact hret _ _ _ _ d_M_addRuled_30 rfl ⟨pr, N, fu, fd, B, rfl, Or.inl ⟨rfl, rfl, rfl, by omega⟩⟩
        · refine j_iload_n C d_M_addRuled_19 (x := z) rfl ?_
          refine j_if_lt C d_M_addRuled_20 (tgt := 29) (by decide) (rfl) (fun c_20 => ?_) (fun c_20 => ?_)
          · refine j_iconst C d_M_addRuled_29 (v := (-1)) (by decide) ?_
            exact hret _ _ _ _ d_M_addRuled_30 rfl ⟨pr, N, fu, fd, B, rfl, Or.inl ⟨rfl, rfl, rfl, by omega⟩⟩
          · refine j_iload_n C d_M_addRuled_23 (x := z) rfl ?_
            refine j_bipush C d_M_addRuled_24 (v := nI 30) (by decide) ?_
            refine j_icmp_le C d_M_addRuled_26 (tgt := 31) (by decide) (rfl) (tI 30 (by decide)) (fun c_26 => ?_) (fun c_26 => ?_)
            · obtain ⟨p, hp, rfl⟩ := of_rng (x := x) (n := 4) (by omega) (by omega)
              obtain ⟨k, hk, rfl⟩ := of_rng (x := y) (n := 4) (by omega) (by omega)
              obtain ⟨d, hd, rfl⟩ := of_rng (x := z) (n := 31) (by omega) (by omega)
              rw [tI p (by omega)] at c_2
              refine j_aload_n C d_M_addRuled_31 (a := h 0) rfl ?_
              refine j_iconst C d_M_addRuled_32 (v := nI 0) (by decide) ?_
              refine j_iload_n C d_M_addRuled_33 (x := nI p) rfl ?_
              refine j_iload_n C d_M_addRuled_34 (x := nI k) rfl ?_
              refine j_iload_n C d_M_addRuled_35 (x := nI d) rfl ?_
              refine j_calli C (c_M_take l D h cs hcp hpr hM hmi hmb hcap (r := 0) (p := p) (k := k) (dd := d) (by omega) (by omega) (by omega) (by omega) (by omega)) (As := [.int (nI 0), .int (nI p), .int (nI k), .int (nI d)]) (rest := []) ok_M_take ml_M_69 (by decide) d_M_addRuled_36 (q0 := 0) rfl rfl rfl rfl (Nat.le_of_ble_eq_true rfl) ?_
              intro res u' hq
              obtain ⟨pr', N', fu', fd', B', rfl, hE⟩ := hq
              exact hret _ _ _ _ d_M_addRuled_39 rfl ⟨pr', N', fu', fd', B', rfl, Or.inr ⟨p, k, d, rfl, rfl, rfl, by omega, by omega, by omega, by omega, hE⟩⟩
            · refine j_iconst C d_M_addRuled_29 (v := (-1)) (by decide) ?_
              exact hret _ _ _ _ d_M_addRuled_30 rfl ⟨pr, N, fu, fd, B, rfl, Or.inl ⟨rfl, rfl, rfl, by omega⟩⟩
theorem d_M_setRule_0 : decode b_M_setRule 0 = .ok (.aload_n 0, 1) := by decide +kernel
theorem d_M_setRule_1 : decode b_M_setRule 1 = .ok (.iload_n 1, 1) := by decide +kernel
theorem d_M_setRule_2 : decode b_M_setRule 2 = .ok (.invokevirtual 77, 3) := by decide +kernel
theorem d_M_setRule_5 : decode b_M_setRule 5 = .ok (.ifCond .eq 34, 3) := by decide +kernel
theorem d_M_setRule_8 : decode b_M_setRule 8 = .ok (.iload_n 2, 1) := by decide +kernel
theorem d_M_setRule_9 : decode b_M_setRule 9 = .ok (.ifCond .lt 30, 3) := by decide +kernel
theorem d_M_setRule_12 : decode b_M_setRule 12 = .ok (.iload_n 2, 1) := by decide +kernel
theorem d_M_setRule_13 : decode b_M_setRule 13 = .ok (.iconst 3, 1) := by decide +kernel
theorem d_M_setRule_14 : decode b_M_setRule 14 = .ok (.if_icmp .gt 25, 3) := by decide +kernel
theorem d_M_setRule_17 : decode b_M_setRule 17 = .ok (.iload_n 3, 1) := by decide +kernel
theorem d_M_setRule_18 : decode b_M_setRule 18 = .ok (.ifCond .lt 21, 3) := by decide +kernel
theorem d_M_setRule_21 : decode b_M_setRule 21 = .ok (.iload_n 3, 1) := by decide +kernel
theorem d_M_setRule_22 : decode b_M_setRule 22 = .ok (.bipush 30, 2) := by decide +kernel
theorem d_M_setRule_24 : decode b_M_setRule 24 = .ok (.if_icmp .gt 15, 3) := by decide +kernel
theorem d_M_setRule_27 : decode b_M_setRule 27 = .ok (.iload 4, 2) := by decide +kernel
theorem d_M_setRule_29 : decode b_M_setRule 29 = .ok (.iconst 1, 1) := by decide +kernel
theorem d_M_setRule_30 : decode b_M_setRule 30 = .ok (.if_icmp .lt 9, 3) := by decide +kernel
theorem d_M_setRule_33 : decode b_M_setRule 33 = .ok (.iload 4, 2) := by decide +kernel
theorem d_M_setRule_35 : decode b_M_setRule 35 = .ok (.iconst 5, 1) := by decide +kernel
theorem d_M_setRule_36 : decode b_M_setRule 36 = .ok (.if_icmp .le 5, 3) := by decide +kernel
theorem d_M_setRule_39 : decode b_M_setRule 39 = .ok (.iconst (-1), 1) := by decide +kernel
theorem d_M_setRule_40 : decode b_M_setRule 40 = .ok (.ireturn, 1) := by decide +kernel
theorem d_M_setRule_41 : decode b_M_setRule 41 = .ok (.aload_n 0, 1) := by decide +kernel
theorem d_M_setRule_42 : decode b_M_setRule 42 = .ok (.getfield 20, 3) := by decide +kernel
theorem d_M_setRule_45 : decode b_M_setRule 45 = .ok (.iload_n 1, 1) := by decide +kernel
theorem d_M_setRule_46 : decode b_M_setRule 46 = .ok (.iaload, 1) := by decide +kernel
theorem d_M_setRule_47 : decode b_M_setRule 47 = .ok (.istore 5, 2) := by decide +kernel
theorem d_M_setRule_49 : decode b_M_setRule 49 = .ok (.aload_n 0, 1) := by decide +kernel
theorem d_M_setRule_50 : decode b_M_setRule 50 = .ok (.getfield 23, 3) := by decide +kernel
theorem d_M_setRule_53 : decode b_M_setRule 53 = .ok (.iload_n 1, 1) := by decide +kernel
theorem d_M_setRule_54 : decode b_M_setRule 54 = .ok (.iaload, 1) := by decide +kernel
theorem d_M_setRule_55 : decode b_M_setRule 55 = .ok (.istore 6, 2) := by decide +kernel
theorem d_M_setRule_57 : decode b_M_setRule 57 = .ok (.aload_n 0, 1) := by decide +kernel
theorem d_M_setRule_58 : decode b_M_setRule 58 = .ok (.getfield 26, 3) := by decide +kernel
theorem d_M_setRule_61 : decode b_M_setRule 61 = .ok (.iload_n 1, 1) := by decide +kernel
theorem d_M_setRule_62 : decode b_M_setRule 62 = .ok (.iaload, 1) := by decide +kernel
theorem d_M_setRule_63 : decode b_M_setRule 63 = .ok (.istore 7, 2) := by decide +kernel
theorem d_M_setRule_65 : decode b_M_setRule 65 = .ok (.aload_n 0, 1) := by decide +kernel
theorem d_M_setRule_66 : decode b_M_setRule 66 = .ok (.getfield 20, 3) := by decide +kernel
theorem d_M_setRule_69 : decode b_M_setRule 69 = .ok (.iload_n 1, 1) := by decide +kernel
theorem d_M_setRule_70 : decode b_M_setRule 70 = .ok (.iload_n 2, 1) := by decide +kernel
theorem d_M_setRule_71 : decode b_M_setRule 71 = .ok (.iastore, 1) := by decide +kernel
theorem d_M_setRule_72 : decode b_M_setRule 72 = .ok (.aload_n 0, 1) := by decide +kernel
theorem d_M_setRule_73 : decode b_M_setRule 73 = .ok (.getfield 23, 3) := by decide +kernel
theorem d_M_setRule_76 : decode b_M_setRule 76 = .ok (.iload_n 1, 1) := by decide +kernel
theorem d_M_setRule_77 : decode b_M_setRule 77 = .ok (.iload_n 3, 1) := by decide +kernel
theorem d_M_setRule_78 : decode b_M_setRule 78 = .ok (.iastore, 1) := by decide +kernel
theorem d_M_setRule_79 : decode b_M_setRule 79 = .ok (.aload_n 0, 1) := by decide +kernel
theorem d_M_setRule_80 : decode b_M_setRule 80 = .ok (.getfield 26, 3) := by decide +kernel
theorem d_M_setRule_83 : decode b_M_setRule 83 = .ok (.iload_n 1, 1) := by decide +kernel
theorem d_M_setRule_84 : decode b_M_setRule 84 = .ok (.iload 4, 2) := by decide +kernel
theorem d_M_setRule_86 : decode b_M_setRule 86 = .ok (.iastore, 1) := by decide +kernel
theorem d_M_setRule_87 : decode b_M_setRule 87 = .ok (.aload_n 0, 1) := by decide +kernel
theorem d_M_setRule_88 : decode b_M_setRule 88 = .ok (.invokevirtual 73, 3) := by decide +kernel
theorem d_M_setRule_91 : decode b_M_setRule 91 = .ok (.ifCond .eq 5, 3) := by decide +kernel
theorem d_M_setRule_94 : decode b_M_setRule 94 = .ok (.iconst 0, 1) := by decide +kernel
theorem d_M_setRule_95 : decode b_M_setRule 95 = .ok (.ireturn, 1) := by decide +kernel
theorem d_M_setRule_96 : decode b_M_setRule 96 = .ok (.aload_n 0, 1) := by decide +kernel
theorem d_M_setRule_97 : decode b_M_setRule 97 = .ok (.getfield 20, 3) := by decide +kernel
theorem d_M_setRule_100 : decode b_M_setRule 100 = .ok (.iload_n 1, 1) := by decide +kernel
theorem d_M_setRule_101 : decode b_M_setRule 101 = .ok (.iload 5, 2) := by decide +kernel
theorem d_M_setRule_103 : decode b_M_setRule 103 = .ok (.iastore, 1) := by decide +kernel
theorem d_M_setRule_104 : decode b_M_setRule 104 = .ok (.aload_n 0, 1) := by decide +kernel
theorem d_M_setRule_105 : decode b_M_setRule 105 = .ok (.getfield 23, 3) := by decide +kernel
theorem d_M_setRule_108 : decode b_M_setRule 108 = .ok (.iload_n 1, 1) := by decide +kernel
theorem d_M_setRule_109 : decode b_M_setRule 109 = .ok (.iload 6, 2) := by decide +kernel
theorem d_M_setRule_111 : decode b_M_setRule 111 = .ok (.iastore, 1) := by decide +kernel
theorem d_M_setRule_112 : decode b_M_setRule 112 = .ok (.aload_n 0, 1) := by decide +kernel
theorem d_M_setRule_113 : decode b_M_setRule 113 = .ok (.getfield 26, 3) := by decide +kernel
theorem d_M_setRule_116 : decode b_M_setRule 116 = .ok (.iload_n 1, 1) := by decide +kernel
theorem d_M_setRule_117 : decode b_M_setRule 117 = .ok (.iload 7, 2) := by decide +kernel
theorem d_M_setRule_119 : decode b_M_setRule 119 = .ok (.iastore, 1) := by decide +kernel
theorem d_M_setRule_120 : decode b_M_setRule 120 = .ok (.bipush (-3), 2) := by decide +kernel
theorem d_M_setRule_122 : decode b_M_setRule 122 = .ok (.ireturn, 1) := by decide +kernel
def SetM (pr : Nat) (cap : Int) (mi : Int) (mb : Nat) (N : Nat → Nat → Nat) (x y z v res : Int32) (N' : Nat → Nat → Nat) : Prop := (res = (-1) ∧ N' = N ∧ ¬ (hld 5 pr x ∧ 0 ≤ y.toInt ∧ y.toInt ≤ 3 ∧ 0 ≤ z.toInt ∧ z.toInt ≤ 30 ∧ 1 ≤ v.toInt ∧ v.toInt ≤ 5)) ∨ ∃ i k d w, x = nI i ∧ y = nI k ∧ z = nI d ∧ v = nI w ∧ i < 5 ∧ pr.testBit i = true ∧ k ≤ 3 ∧ d ≤ 30 ∧ 1 ≤ w ∧ w ≤ 5 ∧ ((res = nI 0 ∧ N' = srN N i k d w ∧ FM pr N' mi mb cap) ∨ (res = (-3) ∧ N' = N ∧ ¬ FM pr (srN N i k d w) mi mb cap))
set_option maxHeartbeats 4000000 in
set_option maxRecDepth 100000 in
/-- setRule(x, y, z, v) -/
theorem c_M_setRule (l : Launch) (D : va_G) (h : Nat → Nat) (cs : Nat → ClassId) {cp : Nat} {cap : Int} {fu : Nat} {fd mi : Int} {mb : Nat} {N : Nat → Nat → Nat} {B : Nat → Int} {pr : Nat} (hpr : pr < 32) (hM : okM pr N) (hmi : -1 ≤ mi ∧ mi < 5) (hmb : mb ≤ 60) (hcap : -200 ≤ cap ∧ cap ≤ 1000) (x y z v : Int32) : CI l y_M_setRule b_M_setRule 8 .int 4 D (tysM cs) (wM h cs) (cp, cap, fu, fd, mi, mb, N, B) [.ref (h 0), .int x, .int y, .int z, .int v] (fun res u' => ∃ N' fu' fd' B', u' = (cp, cap, fu', fd', mi, mb, N', B') ∧ SetM pr cap mi mb N x y z v res N') := by
  refine CI_of ok_M_setRule (Nat.le_of_ble_eq_true rfl) (cat_all rfl) ?_
  intro K C hret
  have C : Kok D (tysM cs) K b_M_setRule 8 R_M 4 := C
  refine j_aload_n C d_M_setRule_0 (a := h 0) rfl ?_
  refine j_iload_n C d_M_setRule_1 (x := x) rfl ?_
  refine j_calli C (c_M_there l D h cs hpr hM x) (As := [.int x]) (rest := []) ok_M_there ml_M_77 (by decide) d_M_setRule_2 (q0 := 0) rfl rfl rfl rfl (Nat.le_of_ble_eq_true rfl) ?_
  intro r_2 u' hp
  obtain ⟨rfl, hp_2⟩ := hp
  refine j_if_eq C d_M_setRule_5 (tgt := 39) (by decide) (rfl) (fun c_5 => ?_) (fun c_5 => ?_)
  · have t_5 := bool_f hp_2 c_5
    refine j_iconst C d_M_setRule_39 (v := (-1)) (by decide) ?_
    exact hret _ _ _ _ d_M_setRule_40 rfl ⟨N, fu, fd, B, rfl, Or.inl ⟨rfl, rfl, fun q => by first | exact t_5 q.1 | omega⟩⟩
  · have t_5 := bool_t hp_2 c_5
    refine j_iload_n C d_M_setRule_8 (x := y) rfl ?_
    refine j_if_lt C d_M_setRule_9 (tgt := 39) (by decide) (rfl) (fun c_9 => ?_) (fun c_9 => ?_)
    · refine j_iconst C d_M_setRule_39 (v := (-1)) (by decide) ?_
      exact hret _ _ _ _ d_M_setRule_40 rfl ⟨N, fu, fd, B, rfl, Or.inl ⟨rfl, rfl, fun q => by first | exact t_5 q.1 | omega⟩⟩
    · refine j_iload_n C d_M_setRule_12 (x := y) rfl ?_
      refine j_iconst C d_M_setRule_13 (v := nI 3) (by decide) ?_
      refine j_icmp_gt C d_M_setRule_14 (tgt := 39) (by decide) (rfl) (tI 3 (by decide)) (fun c_14 => ?_) (fun c_14 => ?_)
      · refine j_iconst C d_M_setRule_39 (v := (-1)) (by decide) ?_
        exact hret _ _ _ _ d_M_setRule_40 rfl ⟨N, fu, fd, B, rfl, Or.inl ⟨rfl, rfl, fun q => by first | exact t_5 q.1 | omega⟩⟩
      · refine j_iload_n C d_M_setRule_17 (x := z) rfl ?_
        refine j_if_lt C d_M_setRule_18 (tgt := 39) (by decide) (rfl) (fun c_18 => ?_) (fun c_18 => ?_)
        · refine j_iconst C d_M_setRule_39 (v := (-1)) (by decide) ?_
          exact hret _ _ _ _ d_M_setRule_40 rfl ⟨N, fu, fd, B, rfl, Or.inl ⟨rfl, rfl, fun q => by first | exact t_5 q.1 | omega⟩⟩
        · refine j_iload_n C d_M_setRule_21 (x := z) rfl ?_
          refine j_bipush C d_M_setRule_22 (v := nI 30) (by decide) ?_
          refine j_icmp_gt C d_M_setRule_24 (tgt := 39) (by decide) (rfl) (tI 30 (by decide)) (fun c_24 => ?_) (fun c_24 => ?_)
          · refine j_iconst C d_M_setRule_39 (v := (-1)) (by decide) ?_
            exact hret _ _ _ _ d_M_setRule_40 rfl ⟨N, fu, fd, B, rfl, Or.inl ⟨rfl, rfl, fun q => by first | exact t_5 q.1 | omega⟩⟩
          · refine j_iload C d_M_setRule_27 (x := v) rfl ?_
            refine j_iconst C d_M_setRule_29 (v := nI 1) (by decide) ?_
            refine j_icmp_lt C d_M_setRule_30 (tgt := 39) (by decide) (rfl) (tI 1 (by decide)) (fun c_30 => ?_) (fun c_30 => ?_)
            · refine j_iconst C d_M_setRule_39 (v := (-1)) (by decide) ?_
              exact hret _ _ _ _ d_M_setRule_40 rfl ⟨N, fu, fd, B, rfl, Or.inl ⟨rfl, rfl, fun q => by first | exact t_5 q.1 | omega⟩⟩
            · refine j_iload C d_M_setRule_33 (x := v) rfl ?_
              refine j_iconst C d_M_setRule_35 (v := nI 5) (by decide) ?_
              refine j_icmp_le C d_M_setRule_36 (tgt := 41) (by decide) (rfl) (tI 5 (by decide)) (fun c_36 => ?_) (fun c_36 => ?_)
              · obtain ⟨i, hi, rfl, hbi⟩ := t_5
                obtain ⟨k, hk, rfl⟩ := of_rng (x := y) (n := 4) (by omega) (by omega)
                obtain ⟨d, hd, rfl⟩ := of_rng (x := z) (n := 31) (by omega) (by omega)
                obtain ⟨w, hw, rfl⟩ := of_rng (x := v) (n := 6) (by omega) (by omega)
                rw [tI w (by omega)] at c_30
                refine j_aload_n C d_M_setRule_41 (a := h 0) rfl ?_
                refine m_get C 5 (v := .ref (h 4)) d_M_setRule_42 (by decide) fl_M_5 rfl ?_
                refine j_iload_n C d_M_setRule_45 (x := nI i) rfl ?_
                refine j_iald C 4 3 (f := fun ξ => nI ((N 4) ξ)) (i := i) (v := nI (N 4 i)) d_M_setRule_46 rfl rfl (by omega) (by decide) rfl ?_
                refine j_istore C d_M_setRule_47 (Nat.le_of_ble_eq_true rfl) (Nat.le_of_ble_eq_true rfl) (L' := [.ref (h 0), .int (nI i), .int (nI k), .int (nI d), .int (nI w), .int (nI (N 4 i))]) rfl ?_
                refine j_aload_n C d_M_setRule_49 (a := h 0) rfl ?_
                refine m_get C 6 (v := .ref (h 5)) d_M_setRule_50 (by decide) fl_M_6 rfl ?_
                refine j_iload_n C d_M_setRule_53 (x := nI i) rfl ?_
                refine j_iald C 5 4 (f := fun ξ => nI ((N 5) ξ)) (i := i) (v := nI (N 5 i)) d_M_setRule_54 rfl rfl (by omega) (by decide) rfl ?_
                refine j_istore C d_M_setRule_55 (Nat.le_of_ble_eq_true rfl) (Nat.le_of_ble_eq_true rfl) (L' := [.ref (h 0), .int (nI i), .int (nI k), .int (nI d), .int (nI w), .int (nI (N 4 i)), .int (nI (N 5 i))]) rfl ?_
                refine j_aload_n C d_M_setRule_57 (a := h 0) rfl ?_
                refine m_get C 7 (v := .ref (h 6)) d_M_setRule_58 (by decide) fl_M_7 rfl ?_
                refine j_iload_n C d_M_setRule_61 (x := nI i) rfl ?_
                refine j_iald C 6 5 (f := fun ξ => nI ((N 6) ξ)) (i := i) (v := nI (N 6 i)) d_M_setRule_62 rfl rfl (by omega) (by decide) rfl ?_
                refine j_istore C d_M_setRule_63 (Nat.le_of_ble_eq_true rfl) (Nat.le_of_ble_eq_true rfl) (L' := [.ref (h 0), .int (nI i), .int (nI k), .int (nI d), .int (nI w), .int (nI (N 4 i)), .int (nI (N 5 i)), .int (nI (N 6 i))]) rfl ?_
                refine j_aload_n C d_M_setRule_65 (a := h 0) rfl ?_
                refine m_get C 5 (v := .ref (h 4)) d_M_setRule_66 (by decide) fl_M_5 rfl ?_
                refine j_iload_n C d_M_setRule_69 (x := nI i) rfl ?_
                refine j_iload_n C d_M_setRule_70 (x := nI k) rfl ?_
                refine j_iast C 4 3 nI (g := N 4) (i := i) (v := k) (u' := (cp, cap, fu, fd, mi, mb, va_up N 4 (va_up (N 4) i k), B)) d_M_setRule_71 rfl rfl (by omega) (by decide) rfl ?_
                refine j_aload_n C d_M_setRule_72 (a := h 0) rfl ?_
                refine m_get C 6 (v := .ref (h 5)) d_M_setRule_73 (by decide) fl_M_6 rfl ?_
                refine j_iload_n C d_M_setRule_76 (x := nI i) rfl ?_
                refine j_iload_n C d_M_setRule_77 (x := nI d) rfl ?_
                refine j_iast C 5 4 nI (g := N 5) (i := i) (v := d) (u' := (cp, cap, fu, fd, mi, mb, va_up (va_up N 4 (va_up (N 4) i k)) 5 (va_up (N 5) i d), B)) d_M_setRule_78 rfl rfl (by omega) (by decide) rfl ?_
                refine j_aload_n C d_M_setRule_79 (a := h 0) rfl ?_
                refine m_get C 7 (v := .ref (h 6)) d_M_setRule_80 (by decide) fl_M_7 rfl ?_
                refine j_iload_n C d_M_setRule_83 (x := nI i) rfl ?_
                refine j_iload C d_M_setRule_84 (x := nI w) rfl ?_
                refine j_iast C 6 5 nI (g := N 6) (i := i) (v := w) (u' := (cp, cap, fu, fd, mi, mb, va_up (va_up (va_up N 4 (va_up (N 4) i k)) 5 (va_up (N 5) i d)) 6 (va_up (N 6) i w), B)) d_M_setRule_86 rfl rfl (by omega) (by decide) rfl ?_
                refine j_aload_n C d_M_setRule_87 (a := h 0) rfl ?_
                refine j_calli C (c_M_good l D h cs (N := srN N i k d w) (mi := mi) (mb := mb) (pr := pr) hpr (okM_sr hM (by omega) (by omega) (by omega)) hmi hmb hcap) (As := []) (rest := []) ok_M_good ml_M_73 (by decide) d_M_setRule_88 (q0 := 0) rfl rfl rfl rfl (Nat.le_of_ble_eq_true rfl) ?_
                intro r_88 u' hq3
                obtain ⟨⟨fu', fd', B', rfl⟩, hp_88⟩ := hq3
                refine j_if_eq C d_M_setRule_91 (tgt := 96) (by decide) (rfl) (fun c_91 => ?_) (fun c_91 => ?_)
                · have t_91 := bool_f hp_88 c_91
                  refine j_aload_n C d_M_setRule_96 (a := h 0) rfl ?_
                  refine m_get C 5 (v := .ref (h 4)) d_M_setRule_97 (by decide) fl_M_5 rfl ?_
                  refine j_iload_n C d_M_setRule_100 (x := nI i) rfl ?_
                  refine j_iload C d_M_setRule_101 (x := nI (N 4 i)) rfl ?_
                  refine j_iast C 4 3 nI (g := va_up (N 4) i k) (i := i) (v := N 4 i) (u' := (cp, cap, fu', fd', mi, mb, va_up (srN N i k d w) 4 (va_up (va_up (N 4) i k) i (N 4 i)), B')) d_M_setRule_103 rfl rfl (by omega) (by decide) rfl ?_
                  refine j_aload_n C d_M_setRule_104 (a := h 0) rfl ?_
                  refine m_get C 6 (v := .ref (h 5)) d_M_setRule_105 (by decide) fl_M_6 rfl ?_
                  refine j_iload_n C d_M_setRule_108 (x := nI i) rfl ?_
                  refine j_iload C d_M_setRule_109 (x := nI (N 5 i)) rfl ?_
                  refine j_iast C 5 4 nI (g := va_up (N 5) i d) (i := i) (v := N 5 i) (u' := (cp, cap, fu', fd', mi, mb, va_up (va_up (srN N i k d w) 4 (va_up (va_up (N 4) i k) i (N 4 i))) 5 (va_up (va_up (N 5) i d) i (N 5 i)), B')) d_M_setRule_111 rfl rfl (by omega) (by decide) rfl ?_
                  refine j_aload_n C d_M_setRule_112 (a := h 0) rfl ?_
                  refine m_get C 7 (v := .ref (h 6)) d_M_setRule_113 (by decide) fl_M_7 rfl ?_
                  refine j_iload_n C d_M_setRule_116 (x := nI i) rfl ?_
                  refine j_iload C d_M_setRule_117 (x := nI (N 6 i)) rfl ?_
                  refine j_iast C 6 5 nI (g := va_up (N 6) i w) (i := i) (v := N 6 i) (u' := (cp, cap, fu', fd', mi, mb, va_up (va_up (va_up (srN N i k d w) 4 (va_up (va_up (N 4) i k) i (N 4 i))) 5 (va_up (va_up (N 5) i d) i (N 5 i))) 6 (va_up (va_up (N 6) i w) i (N 6 i)), B')) d_M_setRule_119 rfl rfl (by omega) (by decide) rfl ?_
                  refine j_bipush C d_M_setRule_120 (v := (-3)) (by decide) ?_
                  rw [sr_back]
                  exact hret _ _ _ _ d_M_setRule_122 rfl ⟨_, fu', fd', B', rfl, Or.inr ⟨i, k, d, w, rfl, rfl, rfl, rfl, hi, hbi, by omega, by omega, by omega, by omega, Or.inr ⟨rfl, rfl, t_91⟩⟩⟩
                · have t_91 := bool_t hp_88 c_91
                  refine j_iconst C d_M_setRule_94 (v := nI 0) (by decide) ?_
                  exact hret _ _ _ _ d_M_setRule_95 rfl ⟨_, fu', fd', B', rfl, Or.inr ⟨i, k, d, w, rfl, rfl, rfl, rfl, hi, hbi, by omega, by omega, by omega, by omega, Or.inl ⟨rfl, rfl, t_91⟩⟩⟩
              · refine j_iconst C d_M_setRule_39 (v := (-1)) (by decide) ?_
                exact hret _ _ _ _ d_M_setRule_40 rfl ⟨N, fu, fd, B, rfl, Or.inl ⟨rfl, rfl, fun q => by first | exact t_5 q.1 | omega⟩⟩
end
section
/-- v is the least greatest cost, as the model has it -/
def OptM (pr : Nat) (N : Nat → Nat → Nat) (mi : Int) (mb : Nat) (r : Int32) : Prop := ∃ v, r = iI v ∧ (-2000 ≤ v ∧ v ≤ 9999) ∧ ∀ c, -2000 ≤ c → c < 9999 → (v ≤ c ↔ FM pr N mi mb c)
theorem d_M_worst_0 : decode b_M_worst 0 = .ok (.aload_n 0, 1) := by decide +kernel
theorem d_M_worst_1 : decode b_M_worst 1 = .ok (.invokevirtual 66, 3) := by decide +kernel
theorem d_M_worst_4 : decode b_M_worst 4 = .ok (.aload_n 0, 1) := by decide +kernel
theorem d_M_worst_5 : decode b_M_worst 5 = .ok (.getfield 32, 3) := by decide +kernel
theorem d_M_worst_8 : decode b_M_worst 8 = .ok (.aload_n 0, 1) := by decide +kernel
theorem d_M_worst_9 : decode b_M_worst 9 = .ok (.getfield 45, 3) := by decide +kernel
theorem d_M_worst_12 : decode b_M_worst 12 = .ok (.sipush 1023, 3) := by decide +kernel
theorem d_M_worst_15 : decode b_M_worst 15 = .ok (.iand, 1) := by decide +kernel
theorem d_M_worst_16 : decode b_M_worst 16 = .ok (.iaload, 1) := by decide +kernel
theorem d_M_worst_17 : decode b_M_worst 17 = .ok (.ireturn, 1) := by decide +kernel
set_option maxHeartbeats 4000000 in
set_option maxRecDepth 100000 in
/-- worst() -/
theorem c_M_worst (l : Launch) (D : va_G) (h : Nat → Nat) (cs : Nat → ClassId) {cp : Nat} {cap : Int} {fu : Nat} {fd mi : Int} {mb : Nat} {N : Nat → Nat → Nat} {B : Nat → Int} {pr : Nat} (hpr : pr < 32) (hM : okM pr N) (hmi : -1 ≤ mi ∧ mi < 5) (hmb : mb ≤ 60) : CI l y_M_worst b_M_worst 1 .int 3 D (tysM cs) (wM h cs) (cp, cap, fu, fd, mi, mb, N, B) [.ref (h 0)] (fun r u' => ∃ fu' fd' B', u' = (cp, cap, fu', fd', mi, mb, N, B') ∧ OptM pr N mi mb r) := by
  refine CI_of ok_M_worst (Nat.le_of_ble_eq_true rfl) (cat_all rfl) ?_
  intro K C hret
  have C : Kok D (tysM cs) K b_M_worst 1 R_M 3 := C
  have hfl := full_lt hM
  refine j_aload_n C d_M_worst_0 (a := h 0) rfl ?_
  refine j_callv C (c_M_solve l D h cs (N := N) hpr hM hmi hmb) (As := []) (rest := []) ok_M_solve ml_M_66 (by decide) d_M_worst_1 (q0 := 0) rfl rfl rfl rfl (Nat.le_of_ble_eq_true rfl) ?_
  intro u' hq
  obtain ⟨fd', B', rfl, hD, hFd⟩ := hq
  have hbf := hD.1 _ hfl
  refine j_aload_n C d_M_worst_4 (a := h 0) rfl ?_
  refine m_get C 9 (v := .ref (h 8)) d_M_worst_5 (by decide) fl_M_9 rfl ?_
  refine j_aload_n C d_M_worst_8 (a := h 0) rfl ?_
  refine m_get C 10 (v := .int (nI (fullN N))) d_M_worst_9 (by decide) fl_M_10 rfl ?_
  refine j_sipush C d_M_worst_12 (v := nI 1023) (by decide) ?_
  refine j_iand C d_M_worst_15 (z := nI ((fullN N) % 1024)) (nI_and1023 (by omega)) ?_
  rw [Nat.mod_eq_of_lt hfl]
  refine j_iald C 8 7 (f := fun ξ => iI (B' ξ)) (i := fullN N) (v := iI (B' (fullN N))) d_M_worst_16 rfl rfl (by omega) (by decide) rfl ?_
  exact hret _ _ _ _ d_M_worst_17 rfl ⟨_, fd', B', rfl, _, rfl, hbf, dp_fm hpr hM hD⟩
theorem d_M_worstWithout_0 : decode b_M_worstWithout 0 = .ok (.aload_n 0, 1) := by decide +kernel
theorem d_M_worstWithout_1 : decode b_M_worstWithout 1 = .ok (.iload_n 1, 1) := by decide +kernel
theorem d_M_worstWithout_2 : decode b_M_worstWithout 2 = .ok (.invokevirtual 77, 3) := by decide +kernel
theorem d_M_worstWithout_5 : decode b_M_worstWithout 5 = .ok (.ifCond .ne 7, 3) := by decide +kernel
theorem d_M_worstWithout_8 : decode b_M_worstWithout 8 = .ok (.sipush (-2000), 3) := by decide +kernel
theorem d_M_worstWithout_11 : decode b_M_worstWithout 11 = .ok (.ireturn, 1) := by decide +kernel
theorem d_M_worstWithout_12 : decode b_M_worstWithout 12 = .ok (.aload_n 0, 1) := by decide +kernel
theorem d_M_worstWithout_13 : decode b_M_worstWithout 13 = .ok (.getfield 7, 3) := by decide +kernel
theorem d_M_worstWithout_16 : decode b_M_worstWithout 16 = .ok (.iload_n 1, 1) := by decide +kernel
theorem d_M_worstWithout_17 : decode b_M_worstWithout 17 = .ok (.iconst 0, 1) := by decide +kernel
theorem d_M_worstWithout_18 : decode b_M_worstWithout 18 = .ok (.bastore, 1) := by decide +kernel
theorem d_M_worstWithout_19 : decode b_M_worstWithout 19 = .ok (.aload_n 0, 1) := by decide +kernel
theorem d_M_worstWithout_20 : decode b_M_worstWithout 20 = .ok (.invokevirtual 66, 3) := by decide +kernel
theorem d_M_worstWithout_23 : decode b_M_worstWithout 23 = .ok (.aload_n 0, 1) := by decide +kernel
theorem d_M_worstWithout_24 : decode b_M_worstWithout 24 = .ok (.getfield 7, 3) := by decide +kernel
theorem d_M_worstWithout_27 : decode b_M_worstWithout 27 = .ok (.iload_n 1, 1) := by decide +kernel
theorem d_M_worstWithout_28 : decode b_M_worstWithout 28 = .ok (.iconst 1, 1) := by decide +kernel
theorem d_M_worstWithout_29 : decode b_M_worstWithout 29 = .ok (.bastore, 1) := by decide +kernel
theorem d_M_worstWithout_30 : decode b_M_worstWithout 30 = .ok (.aload_n 0, 1) := by decide +kernel
theorem d_M_worstWithout_31 : decode b_M_worstWithout 31 = .ok (.getfield 32, 3) := by decide +kernel
theorem d_M_worstWithout_34 : decode b_M_worstWithout 34 = .ok (.aload_n 0, 1) := by decide +kernel
theorem d_M_worstWithout_35 : decode b_M_worstWithout 35 = .ok (.getfield 45, 3) := by decide +kernel
theorem d_M_worstWithout_38 : decode b_M_worstWithout 38 = .ok (.sipush 1023, 3) := by decide +kernel
theorem d_M_worstWithout_41 : decode b_M_worstWithout 41 = .ok (.iand, 1) := by decide +kernel
theorem d_M_worstWithout_42 : decode b_M_worstWithout 42 = .ok (.iaload, 1) := by decide +kernel
theorem d_M_worstWithout_43 : decode b_M_worstWithout 43 = .ok (.ireturn, 1) := by decide +kernel
set_option maxHeartbeats 4000000 in
set_option maxRecDepth 100000 in
/-- worstWithout(x) -/
theorem c_M_worstWithout (l : Launch) (D : va_G) (h : Nat → Nat) (cs : Nat → ClassId) {cp : Nat} {cap : Int} {fu : Nat} {fd mi : Int} {mb : Nat} {N : Nat → Nat → Nat} {B : Nat → Int} {pr : Nat} (hpr : pr < 32) (hM : okM pr N) (hmi : -1 ≤ mi ∧ mi < 5) (hmb : mb ≤ 60) (x : Int32) : CI l y_M_worstWithout b_M_worstWithout 2 .int 3 D (tysM cs) (wM h cs) (cp, cap, fu, fd, mi, mb, N, B) [.ref (h 0), .int x] (fun r u' => ∃ fu' fd' B', u' = (cp, cap, fu', fd', mi, mb, N, B') ∧ ((¬ hld 5 pr x ∧ r = (-2000)) ∨ ∃ i, x = nI i ∧ i < 5 ∧ pr.testBit i = true ∧ OptM (dif pr (2 ^ i)) (helN N i 0) mi mb r)) := by
  refine CI_of ok_M_worstWithout (Nat.le_of_ble_eq_true rfl) (cat_all rfl) ?_
  intro K C hret
  have C : Kok D (tysM cs) K b_M_worstWithout 2 R_M 3 := C
  refine j_aload_n C d_M_worstWithout_0 (a := h 0) rfl ?_
  refine j_iload_n C d_M_worstWithout_1 (x := x) rfl ?_
  refine j_calli C (c_M_there l D h cs hpr hM x) (As := [.int x]) (rest := []) ok_M_there ml_M_77 (by decide) d_M_worstWithout_2 (q0 := 0) rfl rfl rfl rfl (Nat.le_of_ble_eq_true rfl) ?_
  intro r_2 u' hp
  obtain ⟨rfl, hp_2⟩ := hp
  refine j_if_ne C d_M_worstWithout_5 (tgt := 12) (by decide) (rfl) (fun c_5 => ?_) (fun c_5 => ?_)
  · have t_5 := bool_t hp_2 c_5
    obtain ⟨i, hi, rfl, hbi⟩ := t_5
    have hdl := dif_lt (b := 2 ^ i) hpr
    have hMd := okM_del (i := i) hpr hM
    have hfl := full_lt hMd
    have h1i := (okM_1 hM hi).mpr hbi
    refine j_aload_n C d_M_worstWithout_12 (a := h 0) rfl ?_
    refine m_get C 2 (v := .ref (h 1)) d_M_worstWithout_13 (by decide) fl_M_2 rfl ?_
    refine j_iload_n C d_M_worstWithout_16 (x := nI i) rfl ?_
    refine j_iconst C d_M_worstWithout_17 (v := nI 0) (by decide) ?_
    refine j_zast C 1 0 (g := N 1) (i := i) (v := 0) (u' := (cp, cap, fu, fd, mi, mb, va_up N 1 (va_up (N 1) i 0), B)) d_M_worstWithout_18 rfl rfl (by omega) (by decide) (by omega) rfl ?_
    refine j_aload_n C d_M_worstWithout_19 (a := h 0) rfl ?_
    refine j_callv C (c_M_solve l D h cs (N := helN N i 0) hdl hMd hmi hmb) (As := []) (rest := []) ok_M_solve ml_M_66 (by decide) d_M_worstWithout_20 (q0 := 0) rfl rfl rfl rfl (Nat.le_of_ble_eq_true rfl) ?_
    intro u' hq
    obtain ⟨fd', B', rfl, hD, hFd⟩ := hq
    have hbf := hD.1 _ hfl
    refine j_aload_n C d_M_worstWithout_23 (a := h 0) rfl ?_
    refine m_get C 2 (v := .ref (h 1)) d_M_worstWithout_24 (by decide) fl_M_2 rfl ?_
    refine j_iload_n C d_M_worstWithout_27 (x := nI i) rfl ?_
    refine j_iconst C d_M_worstWithout_28 (v := nI 1) (by decide) ?_
    refine j_zast C 1 0 (g := va_up (N 1) i 0) (i := i) (v := 1) (u' := (cp, cap, fullN (helN N i 0), fd', mi, mb, va_up (helN N i 0) 1 (va_up (va_up (N 1) i 0) i 1), B')) d_M_worstWithout_29 rfl rfl (by omega) (by decide) (by omega) rfl ?_
    rw [hel_back N i 0 1 h1i.symm]
    refine j_aload_n C d_M_worstWithout_30 (a := h 0) rfl ?_
    refine m_get C 9 (v := .ref (h 8)) d_M_worstWithout_31 (by decide) fl_M_9 rfl ?_
    refine j_aload_n C d_M_worstWithout_34 (a := h 0) rfl ?_
    refine m_get C 10 (v := .int (nI (fullN (helN N i 0)))) d_M_worstWithout_35 (by decide) fl_M_10 rfl ?_
    refine j_sipush C d_M_worstWithout_38 (v := nI 1023) (by decide) ?_
    refine j_iand C d_M_worstWithout_41 (z := nI ((fullN (helN N i 0)) % 1024)) (nI_and1023 (by omega)) ?_
    rw [Nat.mod_eq_of_lt hfl]
    refine j_iald C 8 7 (f := fun ξ => iI (B' ξ)) (i := fullN (helN N i 0)) (v := iI (B' (fullN (helN N i 0)))) d_M_worstWithout_42 rfl rfl (by omega) (by decide) rfl ?_
    exact hret _ _ _ _ d_M_worstWithout_43 rfl ⟨_, fd', B', rfl, Or.inr ⟨i, rfl, hi, hbi, _, rfl, hbf, dp_fm hdl hMd hD⟩⟩
  · have t_5 := bool_f hp_2 c_5
    refine j_sipush C d_M_worstWithout_8 (v := (-2000)) (by decide) ?_
    exact hret _ _ _ _ d_M_worstWithout_11 rfl ⟨fu, fd, B, rfl, Or.inl ⟨t_5, rfl⟩⟩
theorem d_M_span_0 : decode b_M_span 0 = .ok (.aload_n 0, 1) := by decide +kernel
theorem d_M_span_1 : decode b_M_span 1 = .ok (.invokevirtual 66, 3) := by decide +kernel
theorem d_M_span_4 : decode b_M_span 4 = .ok (.aload_n 0, 1) := by decide +kernel
theorem d_M_span_5 : decode b_M_span 5 = .ok (.getfield 48, 3) := by decide +kernel
theorem d_M_span_8 : decode b_M_span 8 = .ok (.ireturn, 1) := by decide +kernel
set_option maxHeartbeats 4000000 in
set_option maxRecDepth 100000 in
/-- span() -/
theorem c_M_span (l : Launch) (D : va_G) (h : Nat → Nat) (cs : Nat → ClassId) {cp : Nat} {cap : Int} {fu : Nat} {fd mi : Int} {mb : Nat} {N : Nat → Nat → Nat} {B : Nat → Int} {pr : Nat} (hpr : pr < 32) (hM : okM pr N) (hmi : -1 ≤ mi ∧ mi < 5) (hmb : mb ≤ 60) : CI l y_M_span b_M_span 1 .int 3 D (tysM cs) (wM h cs) (cp, cap, fu, fd, mi, mb, N, B) [.ref (h 0)] (fun r u' => ∃ fu' fd' B', u' = (cp, cap, fu', fd', mi, mb, N, B') ∧ ∃ e, r = iI e ∧ FDP N mi mb 34 e) := by
  refine CI_of ok_M_span (Nat.le_of_ble_eq_true rfl) (cat_all rfl) ?_
  intro K C hret
  have C : Kok D (tysM cs) K b_M_span 1 R_M 3 := C
  have hfl := full_lt hM
  refine j_aload_n C d_M_span_0 (a := h 0) rfl ?_
  refine j_callv C (c_M_solve l D h cs (N := N) hpr hM hmi hmb) (As := []) (rest := []) ok_M_solve ml_M_66 (by decide) d_M_span_1 (q0 := 0) rfl rfl rfl rfl (Nat.le_of_ble_eq_true rfl) ?_
  intro u' hq
  obtain ⟨fd', B', rfl, hD, hFd⟩ := hq
  have hbf := hD.1 _ hfl
  refine j_aload_n C d_M_span_4 (a := h 0) rfl ?_
  refine m_get C 11 (v := .int (iI fd')) d_M_span_5 (by decide) fl_M_11 rfl ?_
  exact hret _ _ _ _ d_M_span_8 rfl ⟨_, fd', B', rfl, fd', rfl, hFd⟩
theorem d_M_earliestFinish_0 : decode b_M_earliestFinish 0 = .ok (.aload_n 0, 1) := by decide +kernel
theorem d_M_earliestFinish_1 : decode b_M_earliestFinish 1 = .ok (.iload_n 1, 1) := by decide +kernel
theorem d_M_earliestFinish_2 : decode b_M_earliestFinish 2 = .ok (.invokevirtual 77, 3) := by decide +kernel
theorem d_M_earliestFinish_5 : decode b_M_earliestFinish 5 = .ok (.ifCond .ne 7, 3) := by decide +kernel
theorem d_M_earliestFinish_8 : decode b_M_earliestFinish 8 = .ok (.sipush (-2000), 3) := by decide +kernel
theorem d_M_earliestFinish_11 : decode b_M_earliestFinish 11 = .ok (.ireturn, 1) := by decide +kernel
theorem d_M_earliestFinish_12 : decode b_M_earliestFinish 12 = .ok (.sipush (-2000), 3) := by decide +kernel
theorem d_M_earliestFinish_15 : decode b_M_earliestFinish 15 = .ok (.istore_n 2, 1) := by decide +kernel
theorem d_M_earliestFinish_16 : decode b_M_earliestFinish 16 = .ok (.bipush 34, 2) := by decide +kernel
theorem d_M_earliestFinish_18 : decode b_M_earliestFinish 18 = .ok (.istore_n 3, 1) := by decide +kernel
theorem d_M_earliestFinish_19 : decode b_M_earliestFinish 19 = .ok (.iload_n 3, 1) := by decide +kernel
theorem d_M_earliestFinish_20 : decode b_M_earliestFinish 20 = .ok (.iconst 1, 1) := by decide +kernel
theorem d_M_earliestFinish_21 : decode b_M_earliestFinish 21 = .ok (.if_icmp .lt 28, 3) := by decide +kernel
theorem d_M_earliestFinish_24 : decode b_M_earliestFinish 24 = .ok (.aload_n 0, 1) := by decide +kernel
theorem d_M_earliestFinish_25 : decode b_M_earliestFinish 25 = .ok (.iload_n 1, 1) := by decide +kernel
theorem d_M_earliestFinish_26 : decode b_M_earliestFinish 26 = .ok (.putfield 35, 3) := by decide +kernel
theorem d_M_earliestFinish_29 : decode b_M_earliestFinish 29 = .ok (.aload_n 0, 1) := by decide +kernel
theorem d_M_earliestFinish_30 : decode b_M_earliestFinish 30 = .ok (.iload_n 3, 1) := by decide +kernel
theorem d_M_earliestFinish_31 : decode b_M_earliestFinish 31 = .ok (.putfield 59, 3) := by decide +kernel
theorem d_M_earliestFinish_34 : decode b_M_earliestFinish 34 = .ok (.aload_n 0, 1) := by decide +kernel
theorem d_M_earliestFinish_35 : decode b_M_earliestFinish 35 = .ok (.invokevirtual 73, 3) := by decide +kernel
theorem d_M_earliestFinish_38 : decode b_M_earliestFinish 38 = .ok (.ifCond .eq 5, 3) := by decide +kernel
theorem d_M_earliestFinish_41 : decode b_M_earliestFinish 41 = .ok (.iload_n 3, 1) := by decide +kernel
theorem d_M_earliestFinish_42 : decode b_M_earliestFinish 42 = .ok (.istore_n 2, 1) := by decide +kernel
theorem d_M_earliestFinish_43 : decode b_M_earliestFinish 43 = .ok (.iinc 3 (-1), 3) := by decide +kernel
theorem d_M_earliestFinish_46 : decode b_M_earliestFinish 46 = .ok (.goto (-27), 3) := by decide +kernel
theorem d_M_earliestFinish_49 : decode b_M_earliestFinish 49 = .ok (.aload_n 0, 1) := by decide +kernel
theorem d_M_earliestFinish_50 : decode b_M_earliestFinish 50 = .ok (.iconst (-1), 1) := by decide +kernel
theorem d_M_earliestFinish_51 : decode b_M_earliestFinish 51 = .ok (.putfield 35, 3) := by decide +kernel
theorem d_M_earliestFinish_54 : decode b_M_earliestFinish 54 = .ok (.iload_n 2, 1) := by decide +kernel
theorem d_M_earliestFinish_55 : decode b_M_earliestFinish 55 = .ok (.ireturn, 1) := by decide +kernel
/-- the least f at which P holds among those above m -/
def EFP (P : Nat → Prop) (m : Nat) (least : Int) : Prop := (least = -2000 ∧ ∀ q, m < q → q ≤ 34 → ¬ P q) ∨ ∃ q : Nat, least = (q : Int) ∧ m < q ∧ q ≤ 34 ∧ P q ∧ ∀ x, m < x → x < q → ¬ P x
theorem EFP_34 (P : Nat → Prop) : EFP P 34 (-2000) := Or.inl ⟨rfl, fun q h1 h2 => by omega⟩
theorem EFP_f {P : Nat → Prop} {m : Nat} {least : Int} (h : EFP P (m + 1) least) (hn : ¬ P (m + 1)) : EFP P m least := by
  rcases h with ⟨h1, h2⟩ | ⟨q, h1, h2, h3, h4, h5⟩
  · refine Or.inl ⟨h1, fun q a b => ?_⟩
    by_cases hc : q = m + 1
    · rw [hc]; exact hn
    · exact h2 q (by omega) b
  · refine Or.inr ⟨q, h1, by omega, h3, h4, fun x a b => ?_⟩
    by_cases hc : x = m + 1
    · rw [hc]; exact hn
    · exact h5 x (by omega) b
theorem EFP_t {P : Nat → Prop} {m : Nat} (hm : m + 1 ≤ 34) (hp : P (m + 1)) : EFP P m ((m + 1 : Nat) : Int) := Or.inr ⟨m + 1, rfl, by omega, hm, hp, fun x a b => by omega⟩
theorem EFP_bd {P : Nat → Prop} {m : Nat} {least : Int} (h : EFP P m least) : -2000 ≤ least ∧ least ≤ 34 := by
  rcases h with ⟨h1, h2⟩ | ⟨q, h1, h2, h3, h4⟩ <;> omega
theorem nI_decn (m : Nat) : nI (m + 1) + Int32.ofInt (-1) = nI m := by rw [nI_dec, nI_iI]; congr 1; omega
set_option maxHeartbeats 4000000 in
set_option maxRecDepth 100000 in
/-- earliestFinish(x) -/
theorem c_M_earliestFinish (l : Launch) (D : va_G) (h : Nat → Nat) (cs : Nat → ClassId) {cp : Nat} {cap : Int} {fu : Nat} {fd mi : Int} {mb : Nat} {N : Nat → Nat → Nat} {B : Nat → Int} {pr : Nat} (hpr : pr < 32) (hM : okM pr N) (hmi : -1 ≤ mi ∧ mi < 5) (hmb : mb ≤ 60) (hcap : -200 ≤ cap ∧ cap ≤ 1000) (x : Int32) : CI l y_M_earliestFinish b_M_earliestFinish 4 .int 4 D (tysM cs) (wM h cs) (cp, cap, fu, fd, mi, mb, N, B) [.ref (h 0), .int x] (fun r u' => (r = (-2000) ∧ u' = (cp, cap, fu, fd, mi, mb, N, B) ∧ ¬ hld 5 pr x) ∨ ∃ i, x = nI i ∧ i < 5 ∧ pr.testBit i = true ∧ ∃ least fu' fd' mb' B', r = iI least ∧ mb' ≤ 60 ∧ u' = (cp, cap, fu', fd', (-1), mb', N, B') ∧ EFP (fun f => FM pr N (i : Int) f cap) 0 least) := by
  refine CI_of ok_M_earliestFinish (Nat.le_of_ble_eq_true rfl) (cat_all rfl) ?_
  intro K C hret
  have C : Kok D (tysM cs) K b_M_earliestFinish 4 R_M 4 := C
  refine j_aload_n C d_M_earliestFinish_0 (a := h 0) rfl ?_
  refine j_iload_n C d_M_earliestFinish_1 (x := x) rfl ?_
  refine j_calli C (c_M_there l D h cs hpr hM x) (As := [.int x]) (rest := []) ok_M_there ml_M_77 (by decide) d_M_earliestFinish_2 (q0 := 0) rfl rfl rfl rfl (Nat.le_of_ble_eq_true rfl) ?_
  intro r_2 u' hp
  obtain ⟨rfl, hp_2⟩ := hp
  refine j_if_ne C d_M_earliestFinish_5 (tgt := 12) (by decide) (rfl) (fun c_5 => ?_) (fun c_5 => ?_)
  · have t_5 := bool_t hp_2 c_5
    obtain ⟨i, hi, rfl, hbi⟩ := t_5
    refine j_sipush C d_M_earliestFinish_12 (v := iI (-2000)) (by decide) ?_
    refine j_istore_n C d_M_earliestFinish_15 (Nat.le_of_ble_eq_true rfl) (Nat.le_of_ble_eq_true rfl) (L' := [.ref (h 0), .int (nI i), .int (iI (-2000))]) rfl ?_
    refine j_bipush C d_M_earliestFinish_16 (v := nI 34) (by decide) ?_
    refine j_istore_n C d_M_earliestFinish_18 (Nat.le_of_ble_eq_true rfl) (Nat.le_of_ble_eq_true rfl) (L' := [.ref (h 0), .int (nI i), .int (iI (-2000)), .int (nI 34)]) rfl ?_
    have key : ∀ f : Nat, f ≤ 34 → ∀ least fu1 fd1 mi1 mb1 B1, mb1 ≤ 60 → EFP (fun f => FM pr N (i : Int) f cap) f least → J l D K (wM h cs) (cp, cap, fu1, fd1, mi1, mb1, N, B1) 19 [.ref (h 0), .int (nI i), .int (iI least), .int (nI f)] [] := by
      intro f
      induction f with
      | zero =>
        intro _ least fu1 fd1 mi1 mb1 B1 hmb1 hF
        refine j_iload_n C d_M_earliestFinish_19 (x := nI 0) rfl ?_
        refine j_iconst C d_M_earliestFinish_20 (v := nI 1) (by decide) ?_
        refine j_icmp_lt C d_M_earliestFinish_21 (tgt := 49) (by decide) (tI 0 (by decide)) (tI 1 (by decide)) (fun c_21 => ?_) (fun c_21 => ?_)
        · refine j_aload_n C d_M_earliestFinish_49 (a := h 0) rfl ?_
          refine j_iconst C d_M_earliestFinish_50 (v := (-1)) (by decide) ?_
          refine j_top (y := iI (-1)) (by decide) ?_
          refine m_put C 12 (u' := (cp, cap, fu1, fd1, (-1), mb1, N, B1)) d_M_earliestFinish_51 (by decide) fl_M_12 rfl rfl rfl ?_
          refine j_iload_n C d_M_earliestFinish_54 (x := iI least) rfl ?_
          exact hret _ _ _ _ d_M_earliestFinish_55 rfl (Or.inr ⟨i, rfl, hi, hbi, least, fu1, fd1, mb1, B1, rfl, hmb1, rfl, hF⟩)
        · exact absurd c_21 (by omega)
      | succ f ih =>
        intro hf least fu1 fd1 mi1 mb1 B1 hmb1 hF
        refine j_iload_n C d_M_earliestFinish_19 (x := nI (f + 1)) rfl ?_
        refine j_iconst C d_M_earliestFinish_20 (v := nI 1) (by decide) ?_
        refine j_icmp_lt C d_M_earliestFinish_21 (tgt := 49) (by decide) (tI (f + 1) (by omega)) (tI 1 (by decide)) (fun c_21 => ?_) (fun c_21 => ?_)
        · exact absurd c_21 (by omega)
        · refine j_aload_n C d_M_earliestFinish_24 (a := h 0) rfl ?_
          refine j_iload_n C d_M_earliestFinish_25 (x := nI i) rfl ?_
          refine j_top (nI_iI i) ?_
          refine m_put C 12 (u' := (cp, cap, fu1, fd1, ((i : Nat) : Int), mb1, N, B1)) d_M_earliestFinish_26 (by decide) fl_M_12 rfl rfl rfl ?_
          refine j_aload_n C d_M_earliestFinish_29 (a := h 0) rfl ?_
          refine j_iload_n C d_M_earliestFinish_30 (x := nI (f + 1)) rfl ?_
          refine m_put C 13 (u' := (cp, cap, fu1, fd1, ((i : Nat) : Int), f + 1, N, B1)) d_M_earliestFinish_31 (by decide) fl_M_13 rfl rfl rfl ?_
          refine j_aload_n C d_M_earliestFinish_34 (a := h 0) rfl ?_
          refine j_calli C (c_M_good l D h cs (N := N) (mi := ((i : Nat) : Int)) (mb := f + 1) (pr := pr) hpr hM (by omega) (by omega) hcap) (As := []) (rest := []) ok_M_good ml_M_73 (by decide) d_M_earliestFinish_35 (q0 := 0) rfl rfl rfl rfl (Nat.le_of_ble_eq_true rfl) ?_
          intro r_35 u' hq3
          obtain ⟨⟨fu', fd', B', rfl⟩, hp_35⟩ := hq3
          refine j_if_eq C d_M_earliestFinish_38 (tgt := 43) (by decide) (rfl) (fun c_38 => ?_) (fun c_38 => ?_)
          · have t_38 := bool_f hp_35 c_38
            have hnew := EFP_f hF t_38
            refine j_iinc C d_M_earliestFinish_43 (Nat.le_of_ble_eq_true rfl) (x := nI (f + 1)) (v := nI f) rfl (nI_decn f) (L' := [.ref (h 0), .int (nI i), .int (iI least), .int (nI f)]) rfl ?_
            refine j_goto C d_M_earliestFinish_46 (tgt := 19) (by decide) ?_
            exact ih (by omega) _ _ _ _ _ _ (by omega) hnew
          · have t_38 := bool_t hp_35 c_38
            have hnew := EFP_t (P := fun f => FM pr N (i : Int) f cap) (by omega) t_38
            refine j_iload_n C d_M_earliestFinish_41 (x := nI (f + 1)) rfl ?_
            refine j_istore_n C d_M_earliestFinish_42 (Nat.le_of_ble_eq_true rfl) (Nat.le_of_ble_eq_true rfl) (L' := [.ref (h 0), .int (nI i), .int (nI (f + 1)), .int (nI (f + 1))]) rfl ?_
            refine j_iinc C d_M_earliestFinish_43 (Nat.le_of_ble_eq_true rfl) (x := nI (f + 1)) (v := nI f) rfl (nI_decn f) (L' := [.ref (h 0), .int (nI i), .int (nI (f + 1)), .int (nI f)]) rfl ?_
            refine j_goto C d_M_earliestFinish_46 (tgt := 19) (by decide) ?_
            rw [nI_iI (f + 1)]
            exact ih (by omega) _ _ _ _ _ _ (by omega) hnew
    exact key 34 (by omega) _ _ _ _ _ _ hmb (EFP_34 _)
  · have t_5 := bool_f hp_2 c_5
    refine j_sipush C d_M_earliestFinish_8 (v := (-2000)) (by decide) ?_
    exact hret _ _ _ _ d_M_earliestFinish_11 rfl (Or.inl ⟨rfl, rfl, t_5⟩)
theorem d_M_delay_0 : decode b_M_delay 0 = .ok (.aload_n 0, 1) := by decide +kernel
theorem d_M_delay_1 : decode b_M_delay 1 = .ok (.iload_n 1, 1) := by decide +kernel
theorem d_M_delay_2 : decode b_M_delay 2 = .ok (.invokevirtual 77, 3) := by decide +kernel
theorem d_M_delay_5 : decode b_M_delay 5 = .ok (.ifCond .ne 7, 3) := by decide +kernel
theorem d_M_delay_8 : decode b_M_delay 8 = .ok (.sipush (-2000), 3) := by decide +kernel
theorem d_M_delay_11 : decode b_M_delay 11 = .ok (.ireturn, 1) := by decide +kernel
theorem d_M_delay_12 : decode b_M_delay 12 = .ok (.aload_n 0, 1) := by decide +kernel
theorem d_M_delay_13 : decode b_M_delay 13 = .ok (.getfield 13, 3) := by decide +kernel
theorem d_M_delay_16 : decode b_M_delay 16 = .ok (.iload_n 1, 1) := by decide +kernel
theorem d_M_delay_17 : decode b_M_delay 17 = .ok (.iaload, 1) := by decide +kernel
theorem d_M_delay_18 : decode b_M_delay 18 = .ok (.istore_n 2, 1) := by decide +kernel
theorem d_M_delay_19 : decode b_M_delay 19 = .ok (.iconst 0, 1) := by decide +kernel
theorem d_M_delay_20 : decode b_M_delay 20 = .ok (.istore_n 3, 1) := by decide +kernel
theorem d_M_delay_21 : decode b_M_delay 21 = .ok (.iconst 1, 1) := by decide +kernel
theorem d_M_delay_22 : decode b_M_delay 22 = .ok (.istore 4, 2) := by decide +kernel
theorem d_M_delay_24 : decode b_M_delay 24 = .ok (.iload 4, 2) := by decide +kernel
theorem d_M_delay_26 : decode b_M_delay 26 = .ok (.bipush 9, 2) := by decide +kernel
theorem d_M_delay_28 : decode b_M_delay 28 = .ok (.if_icmp .gt 29, 3) := by decide +kernel
theorem d_M_delay_31 : decode b_M_delay 31 = .ok (.aload_n 0, 1) := by decide +kernel
theorem d_M_delay_32 : decode b_M_delay 32 = .ok (.getfield 13, 3) := by decide +kernel
theorem d_M_delay_35 : decode b_M_delay 35 = .ok (.iload_n 1, 1) := by decide +kernel
theorem d_M_delay_36 : decode b_M_delay 36 = .ok (.iload_n 2, 1) := by decide +kernel
theorem d_M_delay_37 : decode b_M_delay 37 = .ok (.iload 4, 2) := by decide +kernel
theorem d_M_delay_39 : decode b_M_delay 39 = .ok (.iadd, 1) := by decide +kernel
theorem d_M_delay_40 : decode b_M_delay 40 = .ok (.iastore, 1) := by decide +kernel
theorem d_M_delay_41 : decode b_M_delay 41 = .ok (.aload_n 0, 1) := by decide +kernel
theorem d_M_delay_42 : decode b_M_delay 42 = .ok (.invokevirtual 73, 3) := by decide +kernel
theorem d_M_delay_45 : decode b_M_delay 45 = .ok (.ifCond .eq 6, 3) := by decide +kernel
theorem d_M_delay_48 : decode b_M_delay 48 = .ok (.iload 4, 2) := by decide +kernel
theorem d_M_delay_50 : decode b_M_delay 50 = .ok (.istore_n 3, 1) := by decide +kernel
theorem d_M_delay_51 : decode b_M_delay 51 = .ok (.iinc 4 1, 3) := by decide +kernel
theorem d_M_delay_54 : decode b_M_delay 54 = .ok (.goto (-30), 3) := by decide +kernel
theorem d_M_delay_57 : decode b_M_delay 57 = .ok (.aload_n 0, 1) := by decide +kernel
theorem d_M_delay_58 : decode b_M_delay 58 = .ok (.getfield 13, 3) := by decide +kernel
theorem d_M_delay_61 : decode b_M_delay 61 = .ok (.iload_n 1, 1) := by decide +kernel
theorem d_M_delay_62 : decode b_M_delay 62 = .ok (.iload_n 2, 1) := by decide +kernel
theorem d_M_delay_63 : decode b_M_delay 63 = .ok (.iastore, 1) := by decide +kernel
theorem d_M_delay_64 : decode b_M_delay 64 = .ok (.iload_n 3, 1) := by decide +kernel
theorem d_M_delay_65 : decode b_M_delay 65 = .ok (.ireturn, 1) := by decide +kernel
def DYP (Q : Nat → Prop) (q a : Nat) : Prop := a < q ∧ q ≤ 10 ∧ (a = 0 ∨ Q a) ∧ ∀ x, a < x → x < q → ¬ Q x
theorem DYP_t {Q : Nat → Prop} {q a : Nat} (h : DYP Q q a) (hq : q ≤ 9) (hp : Q q) : DYP Q (q + 1) q := ⟨by omega, by omega, Or.inr hp, fun x a b => by omega⟩
theorem DYP_f {Q : Nat → Prop} {q a : Nat} (h : DYP Q q a) (hq : q ≤ 9) (hp : ¬ Q q) : DYP Q (q + 1) a := ⟨by have := h.1; omega, by omega, h.2.2.1, fun x a b => by
  rcases lt_succ_cases b with z | rfl
  · exact h.2.2.2 x a z
  · exact hp⟩
set_option maxHeartbeats 4000000 in
set_option maxRecDepth 100000 in
/-- delay(x) -/
theorem c_M_delay (l : Launch) (D : va_G) (h : Nat → Nat) (cs : Nat → ClassId) {cp : Nat} {cap : Int} {fu : Nat} {fd mi : Int} {mb : Nat} {N : Nat → Nat → Nat} {B : Nat → Int} {pr : Nat} (hpr : pr < 32) (hM : okM pr N) (hmi : -1 ≤ mi ∧ mi < 5) (hmb : mb ≤ 60) (hcap : -200 ≤ cap ∧ cap ≤ 1000) (hr9 : ∀ j, pr.testBit j = true → N 2 j ≤ 9) (x : Int32) : CI l y_M_delay b_M_delay 5 .int 4 D (tysM cs) (wM h cs) (cp, cap, fu, fd, mi, mb, N, B) [.ref (h 0), .int x] (fun r u' => ∃ fu' fd' B', u' = (cp, cap, fu', fd', mi, mb, N, B') ∧ ((¬ hld 5 pr x ∧ r = (-2000)) ∨ ∃ i a, x = nI i ∧ i < 5 ∧ pr.testBit i = true ∧ r = nI a ∧ DYP (fun q => FM pr (relM N i (N 2 i + q)) mi mb cap) 10 a)) := by
  refine CI_of ok_M_delay (Nat.le_of_ble_eq_true rfl) (cat_all rfl) ?_
  intro K C hret
  have C : Kok D (tysM cs) K b_M_delay 5 R_M 4 := C
  refine j_aload_n C d_M_delay_0 (a := h 0) rfl ?_
  refine j_iload_n C d_M_delay_1 (x := x) rfl ?_
  refine j_calli C (c_M_there l D h cs hpr hM x) (As := [.int x]) (rest := []) ok_M_there ml_M_77 (by decide) d_M_delay_2 (q0 := 0) rfl rfl rfl rfl (Nat.le_of_ble_eq_true rfl) ?_
  intro r_2 u' hp
  obtain ⟨rfl, hp_2⟩ := hp
  refine j_if_ne C d_M_delay_5 (tgt := 12) (by decide) (rfl) (fun c_5 => ?_) (fun c_5 => ?_)
  · have t_5 := bool_t hp_2 c_5
    obtain ⟨i, hi, rfl, hbi⟩ := t_5
    have h9 := hr9 i hbi
    refine j_aload_n C d_M_delay_12 (a := h 0) rfl ?_
    refine m_get C 3 (v := .ref (h 2)) d_M_delay_13 (by decide) fl_M_3 rfl ?_
    refine j_iload_n C d_M_delay_16 (x := nI i) rfl ?_
    refine j_iald C 2 1 (f := fun ξ => nI ((N 2) ξ)) (i := i) (v := nI (N 2 i)) d_M_delay_17 rfl rfl (by omega) (by decide) rfl ?_
    refine j_istore_n C d_M_delay_18 (Nat.le_of_ble_eq_true rfl) (Nat.le_of_ble_eq_true rfl) (L' := [.ref (h 0), .int (nI i), .int (nI (N 2 i))]) rfl ?_
    refine j_iconst C d_M_delay_19 (v := nI 0) (by decide) ?_
    refine j_istore_n C d_M_delay_20 (Nat.le_of_ble_eq_true rfl) (Nat.le_of_ble_eq_true rfl) (L' := [.ref (h 0), .int (nI i), .int (nI (N 2 i)), .int (nI 0)]) rfl ?_
    refine j_iconst C d_M_delay_21 (v := nI 1) (by decide) ?_
    refine j_istore C d_M_delay_22 (Nat.le_of_ble_eq_true rfl) (Nat.le_of_ble_eq_true rfl) (L' := [.ref (h 0), .int (nI i), .int (nI (N 2 i)), .int (nI 0), .int (nI 1)]) rfl ?_
    refine j_same (u' := (cp, cap, fu, fd, mi, mb, relM N i (N 2 i), B)) (by rw [rel_idM]) ?_
    have key : ∀ q, q ≤ 10 → ∀ a v fu1 fd1 B1, 1 ≤ q → DYP (fun q => FM pr (relM N i (N 2 i + q)) mi mb cap) q a → J l D K (wM h cs) (cp, cap, fu1, fd1, mi, mb, relM N i v, B1) 24 [.ref (h 0), .int (nI i), .int (nI (N 2 i)), .int (nI a), .int (nI q)] [] := by
      refine up_ind 10 ?_
      intro q hq ih a v fu1 fd1 B1 hq1 hF
      have hal := hF.1
      refine j_iload C d_M_delay_24 (x := nI q) rfl ?_
      refine j_bipush C d_M_delay_26 (v := nI 9) (by decide) ?_
      refine j_icmp_gt C d_M_delay_28 (tgt := 57) (by decide) (tI q (by omega)) (tI 9 (by decide)) (fun c_28 => ?_) (fun c_28 => ?_)
      · obtain rfl : q = 10 := by omega
        refine j_aload_n C d_M_delay_57 (a := h 0) rfl ?_
        refine m_get C 3 (v := .ref (h 2)) d_M_delay_58 (by decide) fl_M_3 rfl ?_
        refine j_iload_n C d_M_delay_61 (x := nI i) rfl ?_
        refine j_iload_n C d_M_delay_62 (x := nI (N 2 i)) rfl ?_
        refine j_iast C 2 1 nI (g := va_up (N 2) i v) (i := i) (v := N 2 i) (u' := (cp, cap, fu1, fd1, mi, mb, va_up (relM N i v) 2 (va_up (va_up (N 2) i v) i (N 2 i)), B1)) d_M_delay_63 rfl rfl (by omega) (by decide) rfl ?_
        rw [rel_backM, rel_idM]
        refine j_iload_n C d_M_delay_64 (x := nI a) rfl ?_
        exact hret _ _ _ _ d_M_delay_65 rfl ⟨fu1, fd1, B1, rfl, Or.inr ⟨i, a, rfl, hi, hbi, rfl, hF⟩⟩
      · refine j_aload_n C d_M_delay_31 (a := h 0) rfl ?_
        refine m_get C 3 (v := .ref (h 2)) d_M_delay_32 (by decide) fl_M_3 rfl ?_
        refine j_iload_n C d_M_delay_35 (x := nI i) rfl ?_
        refine j_iload_n C d_M_delay_36 (x := nI (N 2 i)) rfl ?_
        refine j_iload C d_M_delay_37 (x := nI q) rfl ?_
        refine j_iadd C d_M_delay_39 (z := nI ((N 2 i) + q)) (nI_add _ _) ?_
        refine j_iast C 2 1 nI (g := va_up (N 2) i v) (i := i) (v := (N 2 i) + q) (u' := (cp, cap, fu1, fd1, mi, mb, va_up (relM N i v) 2 (va_up (va_up (N 2) i v) i ((N 2 i) + q)), B1)) d_M_delay_40 rfl rfl (by omega) (by decide) rfl ?_
        rw [rel_backM]
        refine j_aload_n C d_M_delay_41 (a := h 0) rfl ?_
        refine j_calli C (c_M_good l D h cs (N := relM N i (N 2 i + q)) (mi := mi) (mb := mb) (pr := pr) hpr (okM_rel hM (by omega)) hmi hmb hcap) (As := []) (rest := []) ok_M_good ml_M_73 (by decide) d_M_delay_42 (q0 := 0) rfl rfl rfl rfl (Nat.le_of_ble_eq_true rfl) ?_
        intro r_42 u' hq3
        obtain ⟨⟨fu', fd', B', rfl⟩, hp_42⟩ := hq3
        refine j_if_eq C d_M_delay_45 (tgt := 51) (by decide) (rfl) (fun c_45 => ?_) (fun c_45 => ?_)
        · have t_45 := bool_f hp_42 c_45
          have hnew := DYP_f hF (by omega) t_45
          refine j_iinc C d_M_delay_51 (Nat.le_of_ble_eq_true rfl) (x := nI q) (v := nI (q + 1)) rfl (nI_add _ _) (L' := [.ref (h 0), .int (nI i), .int (nI (N 2 i)), .int (nI a), .int (nI (q + 1))]) rfl ?_
          refine j_goto C d_M_delay_54 (tgt := 24) (by decide) ?_
          exact ih (by omega) _ _ _ _ _ (by omega) hnew
        · have t_45 := bool_t hp_42 c_45
          have hnew := DYP_t hF (by omega) t_45
          refine j_iload C d_M_delay_48 (x := nI q) rfl ?_
          refine j_istore_n C d_M_delay_50 (Nat.le_of_ble_eq_true rfl) (Nat.le_of_ble_eq_true rfl) (L' := [.ref (h 0), .int (nI i), .int (nI (N 2 i)), .int (nI q), .int (nI q)]) rfl ?_
          refine j_iinc C d_M_delay_51 (Nat.le_of_ble_eq_true rfl) (x := nI q) (v := nI (q + 1)) rfl (nI_add _ _) (L' := [.ref (h 0), .int (nI i), .int (nI (N 2 i)), .int (nI q), .int (nI (q + 1))]) rfl ?_
          refine j_goto C d_M_delay_54 (tgt := 24) (by decide) ?_
          exact ih (by omega) _ _ _ _ _ (by omega) hnew
    exact key 1 (by omega) 0 _ _ _ _ (by omega) ⟨by omega, by omega, Or.inl rfl, fun x a b => by omega⟩
  · have t_5 := bool_f hp_2 c_5
    refine j_sipush C d_M_delay_8 (v := (-2000)) (by decide) ?_
    exact hret _ _ _ _ d_M_delay_11 rfl ⟨fu, fd, B, rfl, Or.inl ⟨t_5, rfl⟩⟩
theorem d_M_couldPrecede_0 : decode b_M_couldPrecede 0 = .ok (.aload_n 0, 1) := by decide +kernel
theorem d_M_couldPrecede_1 : decode b_M_couldPrecede 1 = .ok (.iload_n 1, 1) := by decide +kernel
theorem d_M_couldPrecede_2 : decode b_M_couldPrecede 2 = .ok (.iload_n 2, 1) := by decide +kernel
theorem d_M_couldPrecede_3 : decode b_M_couldPrecede 3 = .ok (.invokevirtual 81, 3) := by decide +kernel
theorem d_M_couldPrecede_6 : decode b_M_couldPrecede 6 = .ok (.istore_n 3, 1) := by decide +kernel
theorem d_M_couldPrecede_7 : decode b_M_couldPrecede 7 = .ok (.aload_n 0, 1) := by decide +kernel
theorem d_M_couldPrecede_8 : decode b_M_couldPrecede 8 = .ok (.iload_n 1, 1) := by decide +kernel
theorem d_M_couldPrecede_9 : decode b_M_couldPrecede 9 = .ok (.iload_n 2, 1) := by decide +kernel
theorem d_M_couldPrecede_10 : decode b_M_couldPrecede 10 = .ok (.invokevirtual 87, 3) := by decide +kernel
theorem d_M_couldPrecede_13 : decode b_M_couldPrecede 13 = .ok (.istore 4, 2) := by decide +kernel
theorem d_M_couldPrecede_15 : decode b_M_couldPrecede 15 = .ok (.iload 4, 2) := by decide +kernel
theorem d_M_couldPrecede_17 : decode b_M_couldPrecede 17 = .ok (.ifCond .ne 14, 3) := by decide +kernel
theorem d_M_couldPrecede_20 : decode b_M_couldPrecede 20 = .ok (.iload_n 3, 1) := by decide +kernel
theorem d_M_couldPrecede_21 : decode b_M_couldPrecede 21 = .ok (.ifCond .ne 10, 3) := by decide +kernel
theorem d_M_couldPrecede_24 : decode b_M_couldPrecede 24 = .ok (.aload_n 0, 1) := by decide +kernel
theorem d_M_couldPrecede_25 : decode b_M_couldPrecede 25 = .ok (.iload_n 1, 1) := by decide +kernel
theorem d_M_couldPrecede_26 : decode b_M_couldPrecede 26 = .ok (.iload_n 2, 1) := by decide +kernel
theorem d_M_couldPrecede_27 : decode b_M_couldPrecede 27 = .ok (.invokevirtual 90, 3) := by decide +kernel
theorem d_M_couldPrecede_30 : decode b_M_couldPrecede 30 = .ok (.pop, 1) := by decide +kernel
theorem d_M_couldPrecede_31 : decode b_M_couldPrecede 31 = .ok (.iload 4, 2) := by decide +kernel
theorem d_M_couldPrecede_33 : decode b_M_couldPrecede 33 = .ok (.ifCond .ne 7, 3) := by decide +kernel
theorem d_M_couldPrecede_36 : decode b_M_couldPrecede 36 = .ok (.iconst 1, 1) := by decide +kernel
theorem d_M_couldPrecede_37 : decode b_M_couldPrecede 37 = .ok (.goto 4, 3) := by decide +kernel
theorem d_M_couldPrecede_40 : decode b_M_couldPrecede 40 = .ok (.iconst 0, 1) := by decide +kernel
theorem d_M_couldPrecede_41 : decode b_M_couldPrecede 41 = .ok (.ireturn, 1) := by decide +kernel
theorem lnkM_new {pr : Nat} {cap mi : Int} {mb : Nat} {N N0 : Nat → Nat → Nat} {x y r : Int32} (h : LnkM pr cap mi mb N x y r N0) (h0 : r.toInt = 0) (hn : ¬ lkm pr (N 7) x y) : ∃ i j, x = nI i ∧ y = nI j ∧ i < 5 ∧ j < 5 ∧ pr.testBit i = true ∧ pr.testBit j = true ∧ (N 7 j).testBit i = false ∧ N0 = preN N j (N 7 j ||| 2 ^ i) := by
  rcases h with ⟨rfl, -, -⟩ | ⟨i, j, h1, h2, h3, h4, h5, h6, h7, h8⟩
  · exact absurd h0 (by decide)
  · rcases h8 with ⟨-, -, h9⟩ | ⟨h9, h10⟩
    · exact absurd ⟨i, j, h1, h2, h4, h5, h6, h7, h9⟩ hn
    · rcases h10 with ⟨rfl, -, -⟩ | ⟨-, h11⟩
      · exact absurd h0 (by decide)
      · rcases h11 with ⟨-, h12, -⟩ | ⟨rfl, -, -⟩
        · exact ⟨i, j, h1, h2, h4, h5, h6, h7, h9, h12⟩
        · exact absurd h0 (by decide)
theorem lnkM_old {pr : Nat} {cap mi : Int} {mb : Nat} {N N0 : Nat → Nat → Nat} {x y r : Int32} (h : LnkM pr cap mi mb N x y r N0) (h0 : r.toInt ≠ 0 ∨ lkm pr (N 7) x y) : N0 = N := by
  rcases h with ⟨-, h, -⟩ | ⟨i, j, h1, h2, h3, h4, h5, h6, h7, h8⟩
  · exact h
  · rcases h8 with ⟨-, h9, -⟩ | ⟨h9, h10⟩
    · exact h9
    · rcases h10 with ⟨-, h11, -⟩ | ⟨-, h11⟩
      · exact h11
      · rcases h11 with ⟨rfl, -, -⟩ | ⟨-, h12, -⟩
        · rcases h0 with h0 | h0
          · exact absurd (tI 0 (by decide)) h0
          · rw [h1, h2] at h0
            have := lkm_n h4 h5 h0
            rw [h9] at this; cases this
        · exact h12
def CouM (pr : Nat) (cap : Int) (mi : Int) (mb : Nat) (N : Nat → Nat → Nat) (x y r : Int32) : Prop := ∃ r0 N0, LnkM pr cap mi mb N x y r0 N0 ∧ ((r = nI 1 ∧ r0.toInt = 0) ∨ (r = nI 0 ∧ r0.toInt ≠ 0))
set_option maxHeartbeats 4000000 in
set_option maxRecDepth 100000 in
/-- couldPrecede(x, y) -/
theorem c_M_couldPrecede (l : Launch) (D : va_G) (h : Nat → Nat) (cs : Nat → ClassId) {cp : Nat} {cap : Int} {fu : Nat} {fd mi : Int} {mb : Nat} {N : Nat → Nat → Nat} {B : Nat → Int} {pr : Nat} (hpr : pr < 32) (hM : okM pr N) (hmi : -1 ≤ mi ∧ mi < 5) (hmb : mb ≤ 60) (hcap : -200 ≤ cap ∧ cap ≤ 1000) {rk : Nat → Nat} (hrk : ∀ q, q < 5 → rk q < 5) (hA : ∀ a b, EY pr (N 7) a b → rk a < rk b) (x y : Int32) : CI l y_M_couldPrecede b_M_couldPrecede 5 .boolean 5 D (tysM cs) (wM h cs) (cp, cap, fu, fd, mi, mb, N, B) [.ref (h 0), .int x, .int y] (fun r u' => ∃ fu' fd' B', u' = (cp, cap, fu', fd', mi, mb, N, B') ∧ CouM pr cap mi mb N x y r) := by
  refine CI_of ok_M_couldPrecede (Nat.le_of_ble_eq_true rfl) (cat_all rfl) ?_
  intro K C hret
  have C : Kok D (tysM cs) K b_M_couldPrecede 5 R_M 5 := C
  refine j_aload_n C d_M_couldPrecede_0 (a := h 0) rfl ?_
  refine j_iload_n C d_M_couldPrecede_1 (x := x) rfl ?_
  refine j_iload_n C d_M_couldPrecede_2 (x := y) rfl ?_
  refine j_calli C (c_M_linked l D h cs hpr hM x y) (As := [.int x, .int y]) (rest := []) ok_M_linked ml_M_81 (by decide) d_M_couldPrecede_3 (q0 := 0) rfl rfl rfl rfl (Nat.le_of_ble_eq_true rfl) ?_
  intro r_3 u' hp
  obtain ⟨rfl, hp_3⟩ := hp
  refine j_istore_n C d_M_couldPrecede_6 (Nat.le_of_ble_eq_true rfl) (Nat.le_of_ble_eq_true rfl) (L' := [.ref (h 0), .int x, .int y, .int r_3]) rfl ?_
  refine j_aload_n C d_M_couldPrecede_7 (a := h 0) rfl ?_
  refine j_iload_n C d_M_couldPrecede_8 (x := x) rfl ?_
  refine j_iload_n C d_M_couldPrecede_9 (x := y) rfl ?_
  refine j_calli C (c_M_link l D h cs hpr hM hmi hmb hcap hrk hA x y) (As := [.int x, .int y]) (rest := []) ok_M_link ml_M_87 (by decide) d_M_couldPrecede_10 (q0 := 0) rfl rfl rfl rfl (Nat.le_of_ble_eq_true rfl) ?_
  intro r4 u' hq
  obtain ⟨N0, fu', fd', B', rfl, hE⟩ := hq
  refine j_istore C d_M_couldPrecede_13 (Nat.le_of_ble_eq_true rfl) (Nat.le_of_ble_eq_true rfl) (L' := [.ref (h 0), .int x, .int y, .int r_3, .int r4]) rfl ?_
  refine j_iload C d_M_couldPrecede_15 (x := r4) rfl ?_
  refine j_if_ne C d_M_couldPrecede_17 (tgt := 31) (by decide) (rfl) (fun c_17 => ?_) (fun c_17 => ?_)
  · obtain rfl := lnkM_old hE (Or.inl c_17)
    refine j_iload C d_M_couldPrecede_31 (x := r4) rfl ?_
    refine j_if_ne C d_M_couldPrecede_33 (tgt := 40) (by decide) (rfl) (fun c_33 => ?_) (fun c_33 => ?_)
    · refine j_iconst C d_M_couldPrecede_40 (v := nI 0) (by decide) ?_
      exact hret _ _ _ _ d_M_couldPrecede_41 rfl ⟨fu', fd', B', rfl, r4, _, hE, by first | exact Or.inl ⟨rfl, by assumption⟩ | exact Or.inr ⟨rfl, by assumption⟩⟩
    · refine j_iconst C d_M_couldPrecede_36 (v := nI 1) (by decide) ?_
      refine j_goto C d_M_couldPrecede_37 (tgt := 41) (by decide) ?_
      exact hret _ _ _ _ d_M_couldPrecede_41 rfl ⟨fu', fd', B', rfl, r4, _, hE, by first | exact Or.inl ⟨rfl, by assumption⟩ | exact Or.inr ⟨rfl, by assumption⟩⟩
  · refine j_iload_n C d_M_couldPrecede_20 (x := r_3) rfl ?_
    refine j_if_ne C d_M_couldPrecede_21 (tgt := 31) (by decide) (rfl) (fun c_21 => ?_) (fun c_21 => ?_)
    · have t_21 := bool_t hp_3 c_21
      obtain rfl := lnkM_old hE (Or.inr t_21)
      refine j_iload C d_M_couldPrecede_31 (x := r4) rfl ?_
      refine j_if_ne C d_M_couldPrecede_33 (tgt := 40) (by decide) (rfl) (fun c_33 => ?_) (fun c_33 => ?_)
      · refine j_iconst C d_M_couldPrecede_40 (v := nI 0) (by decide) ?_
        exact hret _ _ _ _ d_M_couldPrecede_41 rfl ⟨fu', fd', B', rfl, r4, _, hE, by first | exact Or.inl ⟨rfl, by assumption⟩ | exact Or.inr ⟨rfl, by assumption⟩⟩
      · refine j_iconst C d_M_couldPrecede_36 (v := nI 1) (by decide) ?_
        refine j_goto C d_M_couldPrecede_37 (tgt := 41) (by decide) ?_
        exact hret _ _ _ _ d_M_couldPrecede_41 rfl ⟨fu', fd', B', rfl, r4, _, hE, by first | exact Or.inl ⟨rfl, by assumption⟩ | exact Or.inr ⟨rfl, by assumption⟩⟩
    · have t_21 := bool_f hp_3 c_21
      obtain ⟨i, j, rfl, rfl, hi, hj, hbi, hbj, hnb, rfl⟩ := lnkM_new hE c_17 t_21
      have h7 := (hM.2 j hj).2.2.2.2.2
      have hor := or_lt h7 (pow_lt hi)
      refine j_aload_n C d_M_couldPrecede_24 (a := h 0) rfl ?_
      refine j_iload_n C d_M_couldPrecede_25 (x := nI i) rfl ?_
      refine j_iload_n C d_M_couldPrecede_26 (x := nI j) rfl ?_
      refine j_calli C (c_M_unlink l D h cs (N := preN N j (N 7 j ||| 2 ^ i)) hpr (okM_pre hM hor) (nI i) (nI j)) (As := [.int (nI i), .int (nI j)]) (rest := []) ok_M_unlink ml_M_90 (by decide) d_M_couldPrecede_27 (q0 := 0) rfl rfl rfl rfl (Nat.le_of_ble_eq_true rfl) ?_
      intro r5 u' hq
      have hu : u' = (cp, cap, fu', fd', mi, mb, N, B') := by
        rcases hq with ⟨-, -, z⟩ | ⟨i', j', z1, z2, z3, z4, z5, z6, z7, -, z8⟩
        · exact absurd ⟨i, j, rfl, rfl, hi, hj, hbi, hbj, by show (va_up (N 7) j (N 7 j ||| 2 ^ i) j).testBit i = true; rw [va_up_self, or_bit]; exact Or.inr rfl⟩ z
        · obtain rfl := nI_inj (by omega) (by omega) z1
          obtain rfl := nI_inj (by omega) (by omega) z2
          have e7 : preN N j (N 7 j ||| 2 ^ i) 7 = va_up (N 7) j (N 7 j ||| 2 ^ i) := rfl
          have e8 : preN (preN N j (N 7 j ||| 2 ^ i)) j (dif (preN N j (N 7 j ||| 2 ^ i) 7 j) (2 ^ i)) = N := by
            show va_up (preN N j (N 7 j ||| 2 ^ i)) 7 (va_up (preN N j (N 7 j ||| 2 ^ i) 7) j (dif (preN N j (N 7 j ||| 2 ^ i) 7 j) (2 ^ i))) = N
            rw [e7, va_up_self]
            exact pre_back N j _ _ (or_dif h7 hi hnb)
          rw [e8] at z8
          exact z8
      subst hu
      refine j_pop C d_M_couldPrecede_30 rfl ?_
      refine j_iload C d_M_couldPrecede_31 (x := r4) rfl ?_
      refine j_if_ne C d_M_couldPrecede_33 (tgt := 40) (by decide) (rfl) (fun c_33 => ?_) (fun c_33 => ?_)
      · refine j_iconst C d_M_couldPrecede_40 (v := nI 0) (by decide) ?_
        exact hret _ _ _ _ d_M_couldPrecede_41 rfl ⟨fu', fd', B', rfl, r4, _, hE, by first | exact Or.inl ⟨rfl, by assumption⟩ | exact Or.inr ⟨rfl, by assumption⟩⟩
      · refine j_iconst C d_M_couldPrecede_36 (v := nI 1) (by decide) ?_
        refine j_goto C d_M_couldPrecede_37 (tgt := 41) (by decide) ?_
        exact hret _ _ _ _ d_M_couldPrecede_41 rfl ⟨fu', fd', B', rfl, r4, _, hE, by first | exact Or.inl ⟨rfl, by assumption⟩ | exact Or.inr ⟨rfl, by assumption⟩⟩
end
section
/-! ===== planner and model side by side ===== -/
/-- the same jobs, as the two keep them -/
def RelD (pr : Nat) (N M : Nat → Nat → Nat) : Prop := (∀ j, pr.testBit j = true → M 2 j = N 1 j ∧ M 3 j = N 2 j ∧ M 4 j = N 3 j ∧ M 5 j = N 4 j ∧ M 6 j = N 5 j) ∧ ∀ i j, pr.testBit i = true → pr.testBit j = true → (M 7 j).testBit i = (N 6 i).testBit j
def InvX (cp : Nat) (cap : Int) (pr : Nat) (N : Nat → Nat → Nat) : Prop := (1 ≤ cp ∧ cp ≤ 5) ∧ (-200 ≤ cap ∧ cap ≤ 1000) ∧ pr < 32 ∧ (∀ j, pr.testBit j = true → j < cp) ∧ okN N ∧ (∀ j, j < 5 → N 1 j ≤ 9) ∧ (∀ j, pr.testBit j = true → 1 ≤ N 2 j) ∧ (∀ a, pr.testBit a = true → ∀ v, (N 6 a).testBit v = true → pr.testBit v = true) ∧ (∃ rk, Acy pr (N 6) rk) ∧ FE N (-1) 0 pr cap
def REL (cp : Nat) (cap : Int) (pr : Nat) (N M : Nat → Nat → Nat) : Prop := InvX cp cap pr N ∧ okM pr M ∧ RelD pr N M ∧ ∀ j, pr.testBit j = true → ∀ v, (M 7 j).testBit v = true → pr.testBit v = true
theorem okc_okm {N M : Nat → Nat → Nat} {pr : Nat} (hR : RelD pr N M) {fo : Int} {fb j t : Nat} {c : Int} (hj : pr.testBit j = true) (hc : c < 100000) : okc N fo fb c j t ↔ okm M fo fb c j t := by
  obtain ⟨-, -, h3, h4, h5⟩ := hR.1 j hj
  unfold okc okm cnow
  rw [h3, h4, h5]
  by_cases h : (j : Int) = fo ∧ fb < t + 1
  · rw [if_pos h]
    exact ⟨fun z => by omega, fun z => by omega⟩
  · rw [if_neg h]
    exact ⟨fun z => ⟨by omega, z⟩, fun z => z.2⟩
theorem fe_fm {N M : Nat → Nat → Nat} {pr : Nat} (hR : RelD pr N M) {fo : Int} {fb : Nat} {c : Int} (hc : c < 100000) : FE N fo fb pr c ↔ FM pr M fo fb c := by
  constructor
  · intro h
    exact feasT_cong (T := 34) h (fun j hj => Nat.le_of_eq (hR.1 j hj).1) (fun j hj => (hR.1 j hj).2.1) (fun i j hi hj z => by unfold EM at z; unfold EN; rw [← hR.2 i j hi hj]; exact z) (fun j t hj _ z => (okc_okm hR hj hc).mp z)
  · intro h
    exact feasT_cong (T := 34) h (fun j hj => Nat.le_of_eq (hR.1 j hj).1.symm) (fun j hj => (hR.1 j hj).2.1.symm) (fun i j hi hj z => by unfold EN at z; unfold EM; rw [hR.2 i j hi hj]; exact z) (fun j t hj _ z => (okc_okm hR hj hc).mpr z)
/-- plans of the same jobs -/
theorem fe_cong {N N' : Nat → Nat → Nat} {pr : Nat} {fo : Int} {fb : Nat} {c : Int} (h : FE N fo fb pr c) (h1 : ∀ j, pr.testBit j = true → N' 1 j ≤ N 1 j ∧ N' 2 j = N 2 j ∧ N' 3 j = N 3 j ∧ N' 4 j = N 4 j ∧ N' 5 j = N 5 j) (h6 : ∀ i j, pr.testBit i = true → pr.testBit j = true → (N' 6 i).testBit j = true → (N 6 i).testBit j = true) : FE N' fo fb pr c :=
  feasT_cong (T := 34) h (fun j hj => (h1 j hj).1) (fun j hj => (h1 j hj).2.1) (fun i j hi hj z => h6 i j hi hj z) (fun j t hj _ z => by
    obtain ⟨-, -, a3, a4, a5⟩ := h1 j hj
    unfold okc cnow at z ⊢
    rw [a3, a4, a5]
    exact z)
theorem fe_m1 {N : Nat → Nat → Nat} {pr fb fb' : Nat} {c : Int} (h : FE N (-1) fb pr c) : FE N (-1) fb' pr c := feas_ok h fun j t _ _ z => by
  unfold okc cnow at z ⊢
  rw [if_neg (by omega)] at z ⊢
  exact z
theorem fe_le {N : Nat → Nat → Nat} {pr fb : Nat} {fo c c' : Int} (h : FE N fo fb pr c) (hc : c ≤ c') : FE N fo fb pr c' := feas_ok h fun j t _ _ z => by
  unfold okc at z ⊢
  omega
/-- plans of fewer jobs -/
theorem feas_sub {g g' : Nat} {rel len : Nat → Nat} {E ok : Nat → Nat → Prop} (hg' : g' < 32) (hs : ∀ j, g'.testBit j = true → g.testBit j = true) (h : Feas g rel len E ok) : Feas g' rel len E ok := by
  obtain ⟨σ, v, hc⟩ := h
  obtain ⟨τ, hτ⟩ : ∃ τ : Nat → Nat, ∀ t, (g'.testBit (σ t) = true → τ t = σ t) ∧ (g'.testBit (σ t) = false → τ t = 5) := by
    refine Classical.axiomOfChoice (r := fun t x => (g'.testBit (σ t) = true → x = σ t) ∧ (g'.testBit (σ t) = false → x = 5)) fun t => ?_
    cases hb : g'.testBit (σ t)
    · exact ⟨5, fun z => (by cases z), fun _ => rfl⟩
    · exact ⟨σ t, fun _ => rfl, fun z => (by cases z)⟩
  have hcnt : ∀ j, g'.testBit j = true → ∀ T, cnt τ j T = cnt σ j T := by
    intro j hj T
    have hj5 := lt5_of hg' hj
    refine cnt_same fun u _ => ?_
    cases hb : g'.testBit (σ u)
    · rw [(hτ u).2 hb]
      refine ⟨fun z => by omega, fun z => ?_⟩
      rw [z, hj] at hb; cases hb
    · rw [(hτ u).1 hb]
  refine ⟨τ, fun t ht => ?_, fun j hj => by rw [hcnt j hj]; exact hc j (hs j hj)⟩
  cases hb : g'.testBit (σ t)
  · rw [(hτ t).2 hb] at ht; omega
  · rw [(hτ t).1 hb] at ht ⊢
    obtain ⟨v1, v2, v3, v4, v5⟩ := v t ht
    exact ⟨hb, by rw [hcnt _ hb]; exact v2, v3, v4, fun i hi he => by rw [hcnt i hi]; exact v5 i (hs i hi) he⟩
theorem rc_eq {pr : Nat} {N M : Nat → Nat → Nat} (hR : RelD pr N M) : EX pr (N 6) = EY pr (M 7) := by
  funext u v
  refine propext ⟨fun z => ⟨z.1, z.2.1, by rw [hR.2 u v z.1 z.2.1]; exact z.2.2⟩, fun z => ⟨z.1, z.2.1, by rw [← hR.2 u v z.1 z.2.1]; exact z.2.2⟩⟩
theorem hld5 {cp pr : Nat} {x : Int32} (hcp : cp ≤ 5) (hs : ∀ j, pr.testBit j = true → j < cp) : hld 5 pr x ↔ hld cp pr x :=
  ⟨fun ⟨j, _, h2, h3⟩ => ⟨j, hs j h3, h2, h3⟩, fun ⟨j, h1, h2, h3⟩ => ⟨j, by omega, h2, h3⟩⟩
/-! numbers that are held -/
theorem sm_all {pr cp : Nat} (hp : pr < 32) (hc : cp ≤ 5) (h : ∀ j, j < cp → pr.testBit j = true) : cp ≤ sm pr (fun _ => 1) := by
  have : ∀ pr, pr < 32 → ∀ cp, cp < 6 → (∀ j, j < cp → pr.testBit j = true) → cp ≤ sm pr (fun _ => 1) := by decide +kernel
  exact this pr hp cp (by omega) h
def fewB (pr cp i : Nat) : Bool := decide (i < cp) && !pr.testBit i && (List.range 5).all (fun j => !pr.testBit j || decide (j < cp))
theorem fewB_ok : ∀ pr, pr < 32 → ∀ cp, cp < 6 → ∀ i, i < 5 → fewB pr cp i = true → sm pr (fun _ => 1) < cp := by decide +kernel
theorem sm_few {pr cp i : Nat} (hp : pr < 32) (hc : cp ≤ 5) (hi : i < cp) (hn : pr.testBit i = false) (h : ∀ j, pr.testBit j = true → j < cp) : sm pr (fun _ => 1) < cp := by
  refine fewB_ok pr hp cp (by omega) i (by omega) ?_
  unfold fewB
  rw [decide_eq_true hi, hn, Bool.true_and]
  refine List.all_eq_true.mpr fun j _ => ?_
  cases hb : pr.testBit j
  · rfl
  · rw [decide_eq_true (h j hb)]; rfl
theorem least_eq {pr i i' : Nat} (h1 : pr.testBit i = false) (h2 : ∀ j, j < i → pr.testBit j = true) (h3 : pr.testBit i' = false) (h4 : ∀ j, j < i' → pr.testBit j = true) : i = i' := by
  rcases Nat.lt_trichotomy i i' with q | q | q
  · rw [h4 i q] at h1; cases h1
  · exact q
  · rw [h2 i' q] at h3; cases h3
section RELS
variable {cp : Nat} {cap : Int} {pr : Nat} {N M : Nat → Nat → Nat}
theorem up2 {f g : Nat → Nat} {i v j : Nat} (h : j ≠ i → g j = f j) : va_up g i v j = va_up f i v j := by
  by_cases hc : j = i
  · subst hc; rw [va_up_self, va_up_self]
  · rw [va_up_ne _ _ hc, va_up_ne _ _ hc]; exact h hc
theorem or_ne {a i j : Nat} (h : (a ||| 2 ^ i).testBit j = true) (hne : j ≠ i) : a.testBit j = true := by
  rcases (or_bit _ _ _).mp h with q | q
  · exact q
  · exact absurd q.symm hne
/-- a new job -/
theorem reld_ent {i r p k d : Nat} (h : REL cp cap pr N M) (hi : pr.testBit i = false) : RelD (pr ||| 2 ^ i) (entN N i r p k d) (takN M i r p k d) := by
  obtain ⟨hX, hM, hR, hS⟩ := h
  refine ⟨fun j hj => ?_, fun a b ha hb => ?_⟩
  · have key : j ≠ i → _ := fun hne => hR.1 j (or_ne hj hne)
    refine ⟨?_, ?_, ?_, ?_, ?_⟩
    · show va_up (M 2) i r j = va_up (N 1) i r j
      exact up2 fun z => (key z).1
    · show va_up (M 3) i p j = va_up (N 2) i p j
      exact up2 fun z => (key z).2.1
    · show va_up (M 4) i k j = va_up (N 3) i k j
      exact up2 fun z => (key z).2.2.1
    · show va_up (M 5) i d j = va_up (N 4) i d j
      exact up2 fun z => (key z).2.2.2.1
    · show va_up (M 6) i 1 j = va_up (N 5) i 1 j
      exact up2 fun z => (key z).2.2.2.2
  · show (va_up (M 7) i 0 b).testBit a = (va_up (N 6) i 0 a).testBit b
    by_cases hai : a = i
    · rw [hai, va_up_self, Nat.zero_testBit]
      by_cases hbi : b = i
      · rw [hbi, va_up_self, Nat.zero_testBit]
      · rw [va_up_ne _ _ hbi]
        cases hz : (M 7 b).testBit i
        · rfl
        · have := hS b (or_ne hb hbi) i hz
          rw [hi] at this; cases this
    · rw [va_up_ne _ _ hai]
      by_cases hbi : b = i
      · rw [hbi, va_up_self, Nat.zero_testBit]
        cases hz : (N 6 a).testBit i
        · rfl
        · have := hX.2.2.2.2.2.2.2.1 a (or_ne ha hai) i hz
          rw [hi] at this; cases this
      · rw [va_up_ne _ _ hbi]
        exact hR.2 a b (or_ne ha hai) (or_ne hb hbi)
theorem rel_ent {i r p k d : Nat} (h : REL cp cap pr N M) (hic : i < cp) (hi : pr.testBit i = false) (hr : r ≤ 9) (hp1 : 1 ≤ p) (hp3 : p ≤ 3) (hk : k ≤ 3) (hd : d ≤ 30) (hF : FE (entN N i r p k d) (-1) 0 (pr ||| 2 ^ i) cap) : REL cp cap (pr ||| 2 ^ i) (entN N i r p k d) (takN M i r p k d) := by
  have hD := reld_ent (r := r) (p := p) (k := k) (d := d) h hi
  obtain ⟨⟨x1, x2, x3, x4, x5, x6, x7, x8, ⟨rk, x9⟩, x10⟩, hM, hR, hS⟩ := h
  refine ⟨⟨x1, x2, or_lt x3 (pow_lt (by omega)), fun j hj => ?_, okN_ent x5 (by omega) hp3 hk hd, up_bd (f := N 1) x6 hr, ent_len x7 hp1, fun a ha v hv => ?_, ⟨rk, acy_new x9 x8 hi⟩, hF⟩, okM_tak hM (by omega) hp3 hk hd, hD, fun j hj v hv => ?_⟩
  · rcases (or_bit _ _ _).mp hj with q | rfl
    · exact x4 j q
    · exact hic
  · have hv : (va_up (N 6) i 0 a).testBit v = true := hv
    by_cases hai : a = i
    · rw [hai, va_up_self, Nat.zero_testBit] at hv; cases hv
    · rw [va_up_ne _ _ hai] at hv
      exact (or_bit _ _ _).mpr (Or.inl (x8 a (or_ne ha hai) v hv))
  · have hv : (va_up (M 7) i 0 j).testBit v = true := hv
    by_cases hji : j = i
    · rw [hji, va_up_self, Nat.zero_testBit] at hv; cases hv
    · rw [va_up_ne _ _ hji] at hv
      exact (or_bit _ _ _).mpr (Or.inl (hS j (or_ne hj hji) v hv))
/-- a job that was refused: its number stays free -/
theorem rel_ref {i r p k d : Nat} (h : REL cp cap pr N M) (hic : i < 5) (hi : pr.testBit i = false) (hr : r ≤ 9) (hp3 : p ≤ 3) (hk : k ≤ 3) (hd : d ≤ 30) : REL cp cap pr (entN N i r p k d) (helN (takN M i r p k d) i 0) := by
  obtain ⟨⟨x1, x2, x3, x4, x5, x6, x7, x8, ⟨rk, x9⟩, x10⟩, hM, hR, hS⟩ := h
  have ne : ∀ j, pr.testBit j = true → j ≠ i := fun j hj z => by rw [z, hi] at hj; cases hj
  have u : ∀ (f : Nat → Nat) (v j : Nat), pr.testBit j = true → va_up f i v j = f j := fun f v j hj => va_up_ne _ _ (ne j hj)
  refine ⟨⟨x1, x2, x3, x4, okN_ent x5 (by omega) hp3 hk hd, up_bd (f := N 1) x6 hr, fun j hj => ?_, fun a ha v hv => ?_, ⟨rk, acy_fol x9 fun a b ha hb he => ?_⟩, ?_⟩, ?_, ⟨fun j hj => ?_, fun a b ha hb => ?_⟩, fun j hj v hv => ?_⟩
  · show 1 ≤ va_up (N 2) i p j
    rw [u _ _ j hj]; exact x7 j hj
  · have hv : (va_up (N 6) i 0 a).testBit v = true := hv
    rw [u _ _ a ha] at hv
    exact x8 a ha v hv
  · have he : (va_up (N 6) i 0 a).testBit b = true := he
    rw [u _ _ a ha] at he
    exact he
  · refine fe_cong x10 (fun j hj => ⟨?_, ?_, ?_, ?_, ?_⟩) (fun a b ha hb he => ?_)
    · show va_up (N 1) i r j ≤ N 1 j
      rw [u _ _ j hj]; exact Nat.le_refl _
    · exact u (N 2) p j hj
    · exact u (N 3) k j hj
    · exact u (N 4) d j hj
    · exact u (N 5) 1 j hj
    · have he : (va_up (N 6) i 0 a).testBit b = true := he
      rw [u _ _ a ha] at he
      exact he
  · have hok := okM_tak (i := i) (r := r) (p := p) (k := k) (d := d) hM (by omega) hp3 hk hd
    have := okM_del (i := i) (or_lt x3 (pow_lt hic)) hok
    rw [or_dif x3 hic hi] at this
    exact this
  · obtain ⟨a1, a2, a3, a4, a5⟩ := hR.1 j hj
    refine ⟨?_, ?_, ?_, ?_, ?_⟩
    · show va_up (M 2) i r j = va_up (N 1) i r j
      rw [u _ _ j hj, u _ _ j hj]; exact a1
    · show va_up (M 3) i p j = va_up (N 2) i p j
      rw [u _ _ j hj, u _ _ j hj]; exact a2
    · show va_up (M 4) i k j = va_up (N 3) i k j
      rw [u _ _ j hj, u _ _ j hj]; exact a3
    · show va_up (M 5) i d j = va_up (N 4) i d j
      rw [u _ _ j hj, u _ _ j hj]; exact a4
    · show va_up (M 6) i 1 j = va_up (N 5) i 1 j
      rw [u _ _ j hj, u _ _ j hj]; exact a5
  · show (va_up (M 7) i 0 b).testBit a = (va_up (N 6) i 0 a).testBit b
    rw [u _ _ a ha, u _ _ b hb]
    exact hR.2 a b ha hb
  · have hv : (va_up (M 7) i 0 j).testBit v = true := hv
    rw [u _ _ j hj] at hv
    exact hS j hj v hv
theorem op_ent {fb mb rr p k d pr1 pr2 : Nat} {r1 r2 : Int32} {N' M' : Nat → Nat → Nat} (h : REL cp cap pr N M) (hr : rr ≤ 9) (hp1 : 1 ≤ p) (hp3 : p ≤ 3) (hk : k ≤ 3) (hd : d ≤ 30) (hx : EntX cp cap pr (-1) fb N rr p k d r1 pr1 N') (hm : EntM cp cap pr (-1) mb M rr p k d r2 pr2 M') : r1 = r2 ∧ REL cp cap pr1 N' M' := by
  obtain ⟨x1, x2, x3, x4, x5, x6, x7, x8, x9, x10⟩ := id h.1
  rcases hx with ⟨rfl, rfl, rfl, ha⟩ | ⟨i, i1, i2, i3, rfl, i4⟩
  · have hsm := sm_all x3 (by omega) ha
    rcases hm with ⟨rfl, rfl, rfl, -⟩ | ⟨i', j1, j2, -⟩
    · exact ⟨rfl, h⟩
    · omega
  · have hsm := sm_few x3 (by omega) i1 i2 x4
    rcases hm with ⟨rfl, rfl, rfl, hf⟩ | ⟨i', j1, j2, j3, j4, j5⟩
    · rcases hf with hf | hf
      · omega
      · have := hf i (by omega)
        rw [i2] at this; cases this
    · obtain rfl := least_eq i2 i3 j3 j4
      have hD := reld_ent (r := rr) (p := p) (k := k) (d := d) h i2
      have hfm := fe_fm (fo := -1) (fb := 0) (c := cap) hD (by omega)
      have hfm2 : ∀ mb, FM (pr ||| 2 ^ i) (takN M i rr p k d) (-1) mb cap → FE (entN N i rr p k d) (-1) 0 (pr ||| 2 ^ i) cap := fun mb z => fe_m1 ((fe_fm (fb := mb) hD (by omega)).mpr z)
      rcases i4 with ⟨rfl, rfl, hF⟩ | ⟨rfl, rfl, hF⟩
      · have hF0 := fe_m1 (fb' := 0) hF
        rcases j5 with ⟨rfl, rfl, rfl, hG⟩ | ⟨rfl, rfl, rfl, hG⟩
        · exact ⟨rfl, rel_ent h i1 i2 hr hp1 hp3 hk hd hF0⟩
        · exact absurd ((fe_fm (fb := mb) hD (by omega)).mp (fe_m1 hF)) hG
      · rcases j5 with ⟨rfl, rfl, rfl, hG⟩ | ⟨rfl, rfl, rfl, hG⟩
        · exact absurd (fe_m1 (fb' := fb) (hfm2 mb hG)) hF
        · exact ⟨rfl, rel_ref h (by omega) i2 hr hp3 hk hd⟩
end RELS
end
section
/-! ===== the operations, side by side ===== -/
section OPS
variable {cp : Nat} {cap : Int} {pr : Nat} {N M : Nat → Nat → Nat}
theorem nI5 {i i' : Nat} (hi : i < 5) (hi' : i' < 5) (h : nI i = nI i') : i = i' := nI_inj (by omega) (by omega) h
theorem op_set {fb mb : Nat} {x y z v r1 r2 : Int32} {N' M' : Nat → Nat → Nat} (h : REL cp cap pr N M) (hx : SetX cp cap pr (-1) fb N x y z v r1 N') (hm : SetM pr cap (-1) mb M x y z v r2 M') : r1 = r2 ∧ REL cp cap pr N' M' := by
  obtain ⟨⟨x1, x2, x3, x4, x5, x6, x7, x8, ⟨rk, x9⟩, x10⟩, hM, hR, hS⟩ := id h
  have h5 := hld5 (x := x) x1.2 x4
  rcases hx with ⟨rfl, rfl, hn⟩ | ⟨i, k, d, w, rfl, rfl, rfl, rfl, e1, e2, e3, e4, e5, e6, e7⟩
  · rcases hm with ⟨rfl, rfl, -⟩ | ⟨i, k, d, w, rfl, rfl, rfl, rfl, e1, e2, e3, e4, e5, e6, -⟩
    · exact ⟨rfl, h⟩
    · refine absurd ⟨h5.mp ⟨i, e1, rfl, e2⟩, ?_⟩ hn
      rw [tI k (by omega), tI d (by omega), tI w (by omega)]
      omega
  · rcases hm with ⟨rfl, rfl, hn⟩ | ⟨i', k', d', w', z1, z2, z3, z4, f1, f2, f3, f4, f5, f6, f7⟩
    · refine absurd ⟨h5.mpr ⟨i, e1, rfl, e2⟩, ?_⟩ hn
      rw [tI k (by omega), tI d (by omega), tI w (by omega)]
      omega
    · obtain rfl := nI5 (by omega) f1 z1
      obtain rfl := nI_inj (by omega) (by omega) z2
      obtain rfl := nI_inj (by omega) (by omega) z3
      obtain rfl := nI_inj (by omega) (by omega) z4
      have hD : RelD pr (rulN N i k d w) (srN M i k d w) := by
        refine ⟨fun j hj => ?_, hR.2⟩
        obtain ⟨a1, a2, a3, a4, a5⟩ := hR.1 j hj
        refine ⟨a1, a2, ?_, ?_, ?_⟩
        · show va_up (M 4) i k j = va_up (N 3) i k j
          exact up2 fun _ => a3
        · show va_up (M 5) i d j = va_up (N 4) i d j
          exact up2 fun _ => a4
        · show va_up (M 6) i w j = va_up (N 5) i w j
          exact up2 fun _ => a5
      rcases e7 with ⟨rfl, rfl, hF⟩ | ⟨rfl, rfl, hF⟩
      · rcases f7 with ⟨rfl, rfl, hG⟩ | ⟨rfl, rfl, hG⟩
        · exact ⟨rfl, ⟨x1, x2, x3, x4, okN_rul x5 (by omega) (by omega) (by omega), x6, x7, x8, ⟨rk, x9⟩, fe_m1 hF⟩, okM_sr hM (by omega) (by omega) (by omega), hD, hS⟩
        · exact absurd ((fe_fm (fb := mb) hD (by omega)).mp (fe_m1 hF)) hG
      · rcases f7 with ⟨rfl, rfl, hG⟩ | ⟨rfl, rfl, hG⟩
        · exact absurd (fe_m1 ((fe_fm (fb := mb) hD (by omega)).mpr hG)) hF
        · exact ⟨rfl, h⟩
theorem reld_link {i j : Nat} (hR : RelD pr N M) : RelD pr (folN N i (N 6 i ||| 2 ^ j)) (preN M j (M 7 j ||| 2 ^ i)) := by
  refine ⟨hR.1, fun a b ha hb => ?_⟩
  show (va_up (M 7) j (M 7 j ||| 2 ^ i) b).testBit a = (va_up (N 6) i (N 6 i ||| 2 ^ j) a).testBit b
  by_cases hai : a = i
  · rw [hai, va_up_self, Nat.testBit_or, one_bit]
    by_cases hbj : b = j
    · rw [hbj, va_up_self, Nat.testBit_or, one_bit]
      simp
    · rw [va_up_ne _ _ hbj]
      have := hR.2 i b (hai ▸ ha) hb
      rw [this]
      simp [Ne.symm hbj]
  · rw [va_up_ne _ _ hai]
    by_cases hbj : b = j
    · rw [hbj, va_up_self, Nat.testBit_or, one_bit]
      have := hR.2 a j ha (hbj ▸ hb)
      rw [this]
      simp [Ne.symm hai]
    · rw [va_up_ne _ _ hbj]
      exact hR.2 a b ha hb
theorem op_link {fb mb : Nat} {x y r1 r2 : Int32} {N' M' : Nat → Nat → Nat} (h : REL cp cap pr N M) (hx : LnkX cp cap pr (-1) fb N x y r1 N') (hm : LnkM pr cap (-1) mb M x y r2 M') : r1 = r2 ∧ REL cp cap pr N' M' := by
  obtain ⟨⟨x1, x2, x3, x4, x5, x6, x7, x8, ⟨rk, x9⟩, x10⟩, hM, hR, hS⟩ := id h
  have h5 := hld5 (x := x) x1.2 x4
  have h6 := hld5 (x := y) x1.2 x4
  have hE := rc_eq hR
  rcases hx with ⟨rfl, rfl, hn⟩ | ⟨i, j, rfl, rfl, e1, e2, e3, e4, e5, e6⟩
  · rcases hm with ⟨rfl, rfl, -⟩ | ⟨i, j, rfl, rfl, e1, e2, e3, e4, e5, -⟩
    · exact ⟨rfl, h⟩
    · rcases hn with z | z | z
      · exact absurd (h5.mp ⟨i, e2, rfl, e4⟩) z
      · exact absurd (h6.mp ⟨j, e3, rfl, e5⟩) z
      · exact absurd (nI5 e2 e3 z) e1
  · rcases hm with ⟨rfl, rfl, hn⟩ | ⟨i', j', z1, z2, f1, f2, f3, f4, f5, f6⟩
    · rcases hn with z | z | z
      · exact absurd (h5.mpr ⟨i, e2, rfl, e4⟩) z
      · exact absurd (h6.mpr ⟨j, e3, rfl, e5⟩) z
      · exact absurd (nI5 (by omega) (by omega) z) e1
    · obtain rfl := nI5 (by omega) f2 z1
      obtain rfl := nI5 (by omega) f3 z2
      have hb := hR.2 i j e4 e5
      rw [hE] at e6
      have hD := reld_link (i := i) (j := j) hR
      rcases e6 with ⟨rfl, rfl, g1⟩ | ⟨g1, g2⟩
      · rcases f6 with ⟨rfl, rfl, k1⟩ | ⟨k1, -⟩
        · exact ⟨rfl, h⟩
        · rw [hb, g1] at k1; cases k1
      · rcases f6 with ⟨rfl, rfl, k1⟩ | ⟨k1, k2⟩
        · rw [hb, g1] at k1; cases k1
        · rcases g2 with ⟨rfl, rfl, g3⟩ | ⟨g3, g4⟩
          · rcases k2 with ⟨rfl, rfl, -⟩ | ⟨k3, -⟩
            · exact ⟨rfl, h⟩
            · exact absurd g3 k3
          · rcases k2 with ⟨rfl, rfl, k3⟩ | ⟨-, k4⟩
            · exact absurd k3 g3
            · rcases g4 with ⟨rfl, rfl, hF⟩ | ⟨rfl, rfl, hF⟩
              · rcases k4 with ⟨rfl, rfl, hG⟩ | ⟨rfl, rfl, hG⟩
                · refine ⟨rfl, ⟨x1, x2, x3, x4, okN_fol x5 (or_lt (x5 i (by omega)).2.2.2.2.2 (pow_lt (by omega))), x6, x7, fun a ha v hv => ?_, acy_link x3 x9 e4 e5 (by rw [hE]; exact g3), fe_m1 hF⟩, okM_pre hM (or_lt (hM.2 j f3).2.2.2.2.2 (pow_lt f2)), hD, fun q hq v hv => ?_⟩
                  · have hv : (va_up (N 6) i (N 6 i ||| 2 ^ j) a).testBit v = true := hv
                    by_cases hai : a = i
                    · rw [hai, va_up_self] at hv
                      rcases (or_bit _ _ _).mp hv with q | rfl
                      · exact x8 i e4 v q
                      · exact e5
                    · rw [va_up_ne _ _ hai] at hv
                      exact x8 a ha v hv
                  · have hv : (va_up (M 7) j (M 7 j ||| 2 ^ i) q).testBit v = true := hv
                    by_cases hqj : q = j
                    · rw [hqj, va_up_self] at hv
                      rcases (or_bit _ _ _).mp hv with z | rfl
                      · exact hS j e5 v z
                      · exact e4
                    · rw [va_up_ne _ _ hqj] at hv
                      exact hS q hq v hv
                · exact absurd ((fe_fm (fb := mb) hD (by omega)).mp (fe_m1 hF)) hG
              · rcases k4 with ⟨rfl, rfl, hG⟩ | ⟨rfl, rfl, hG⟩
                · exact absurd (fe_m1 ((fe_fm (fb := mb) hD (by omega)).mpr hG)) hF
                · exact ⟨rfl, h⟩
theorem lk_iff {x y : Int32} (h : REL cp cap pr N M) : lkd cp pr (N 6) x y ↔ lkm pr (M 7) x y := by
  obtain ⟨⟨x1, x2, x3, x4, x5, x6, x7, x8, x9, x10⟩, hM, hR, hS⟩ := h
  constructor
  · rintro ⟨i, j, h1, h2, h3, h4, h5, h6, h7⟩
    exact ⟨i, j, h1, h2, by omega, by omega, h5, h6, by rw [hR.2 i j h5 h6]; exact h7⟩
  · rintro ⟨i, j, h1, h2, h3, h4, h5, h6, h7⟩
    exact ⟨i, j, h1, h2, x4 i h5, x4 j h6, h5, h6, by rw [← hR.2 i j h5 h6]; exact h7⟩
theorem dif_one {a i j : Nat} (ha : a < 32) : (dif a (2 ^ i)).testBit j = (a.testBit j && !decide (i = j)) := by rw [dif_bit ha, one_bit]
/-- a link goes -/
theorem rel_unl {i j : Nat} (h : REL cp cap pr N M) (hi : pr.testBit i = true) (hj : pr.testBit j = true) : REL cp cap pr (folN N i (dif (N 6 i) (2 ^ j))) (preN M j (dif (M 7 j) (2 ^ i))) := by
  obtain ⟨⟨x1, x2, x3, x4, x5, x6, x7, x8, ⟨rk, x9⟩, x10⟩, hM, hR, hS⟩ := h
  have hi5 := lt5_of x3 hi
  have hj5 := lt5_of x3 hj
  have hn6 := (x5 i hi5).2.2.2.2.2
  have hm7 := (hM.2 j hj5).2.2.2.2.2
  have sub : ∀ a v, (va_up (N 6) i (dif (N 6 i) (2 ^ j)) a).testBit v = true → (N 6 a).testBit v = true := by
    intro a v hv
    by_cases hai : a = i
    · rw [hai, va_up_self] at hv
      rw [hai]
      exact ((dif_t hn6).mp hv).1
    · rwa [va_up_ne _ _ hai] at hv
  refine ⟨⟨x1, x2, x3, x4, okN_fol x5 (dif_lt hn6), x6, x7, fun a ha v hv => x8 a ha v (sub a v hv), ⟨rk, acy_fol x9 fun a b _ _ he => sub a b he⟩, fe_cong x10 (fun q _ => ⟨Nat.le_refl _, rfl, rfl, rfl, rfl⟩) (fun a b _ _ he => sub a b he)⟩, okM_pre hM (dif_lt hm7), ⟨hR.1, fun a b ha hb => ?_⟩, fun q hq v hv => ?_⟩
  · show (va_up (M 7) j (dif (M 7 j) (2 ^ i)) b).testBit a = (va_up (N 6) i (dif (N 6 i) (2 ^ j)) a).testBit b
    by_cases hai : a = i
    · rw [hai, va_up_self, dif_one hn6]
      by_cases hbj : b = j
      · rw [hbj, va_up_self, dif_one hm7]
        simp
      · rw [va_up_ne _ _ hbj, hR.2 i b hi hb]
        simp [Ne.symm hbj]
    · rw [va_up_ne _ _ hai]
      by_cases hbj : b = j
      · rw [hbj, va_up_self, dif_one hm7, hR.2 a j ha hj]
        simp [Ne.symm hai]
      · rw [va_up_ne _ _ hbj]
        exact hR.2 a b ha hb
  · have hv : (va_up (M 7) j (dif (M 7 j) (2 ^ i)) q).testBit v = true := hv
    by_cases hqj : q = j
    · rw [hqj, va_up_self] at hv
      exact hS j hj v ((dif_t hm7).mp hv).1
    · rw [va_up_ne _ _ hqj] at hv
      exact hS q hq v hv
/-- a job goes -/
theorem rel_rem {i : Nat} {f g : Nat → Nat} (h : REL cp cap pr N M) (hi : pr.testBit i = true) (hf : rmP (va_up (N 6) i 0) (2 ^ i) 5 f) (hg : rmP (M 7) (2 ^ i) 5 g) : REL cp cap (dif pr (2 ^ i)) (va_up N 6 f) (va_up (helN M i 0) 7 g) := by
  obtain ⟨⟨x1, x2, x3, x4, x5, x6, x7, x8, ⟨rk, x9⟩, x10⟩, hM, hR, hS⟩ := h
  have hi5 := lt5_of x3 hi
  have hd : ∀ j, (dif pr (2 ^ i)).testBit j = true → pr.testBit j = true ∧ j ≠ i := by
    intro j hj
    obtain ⟨a, b⟩ := (dif_t x3).mp hj
    refine ⟨a, fun z => ?_⟩
    rw [one_bit, z] at b
    simp at b
  have hd2 : ∀ j, pr.testBit j = true → j ≠ i → (dif pr (2 ^ i)).testBit j = true := by
    intro j hj hne
    refine (dif_t x3).mpr ⟨hj, ?_⟩
    rw [one_bit]
    simp [Ne.symm hne]
  have hdl : dif pr (2 ^ i) < 32 := dif_lt x3
  have hf0 : ∀ q, q < 5 → va_up (N 6) i 0 q < 32 := fun q hq => by
    by_cases hc : q = i
    · rw [hc, va_up_self]; omega
    · rw [va_up_ne _ _ hc]; exact (x5 q hq).2.2.2.2.2
  have ef : ∀ q, q < 5 → f q = dif (va_up (N 6) i 0 q) (2 ^ i) := fun q hq => by rw [hf q, if_pos hq]
  have eg : ∀ q, q < 5 → g q = dif (M 7 q) (2 ^ i) := fun q hq => by rw [hg q, if_pos hq]
  have ef2 : ∀ q v, (dif pr (2 ^ i)).testBit q = true → (f q).testBit v = ((N 6 q).testBit v && !decide (i = v)) := by
    intro q v hq
    obtain ⟨a, b⟩ := hd q hq
    have q5 := lt5_of x3 a
    rw [ef q q5, dif_one (hf0 q q5), va_up_ne _ _ b]
  have eg2 : ∀ q v, q < 5 → (g q).testBit v = ((M 7 q).testBit v && !decide (i = v)) := by
    intro q v hq
    rw [eg q hq, dif_one (hM.2 q hq).2.2.2.2.2]
  have sub : ∀ a v, (dif pr (2 ^ i)).testBit a = true → (f a).testBit v = true → (N 6 a).testBit v = true ∧ i ≠ v := by
    intro a v ha hv
    rw [ef2 a v ha] at hv
    simpa using hv
  have hFE : FE N (-1) 0 (dif pr (2 ^ i)) cap := feas_sub hdl (fun j hj => (hd j hj).1) x10
  refine ⟨⟨x1, x2, hdl, fun j hj => x4 j (hd j hj).1, ?_, x6, fun j hj => x7 j (hd j hj).1, fun a ha v hv => ?_, ⟨rk, acy_fol (acy_sub x9 fun j hj => (hd j hj).1) fun a b ha hb he => (sub a b ha he).1⟩, fe_cong hFE (fun q _ => ⟨Nat.le_refl _, rfl, rfl, rfl, rfl⟩) (fun a b ha hb he => (sub a b ha he).1)⟩, ?_, ⟨fun j hj => hR.1 j (hd j hj).1, fun a b ha hb => ?_⟩, fun q hq v hv => ?_⟩
  · exact okN_mk (N := va_up N 6 f) (okN_1 (N := N) x5) (okN_2 (N := N) x5) (okN_3 (N := N) x5) (okN_4 (N := N) x5) (okN_5 (N := N) x5) (fun j hj => by
      show f j ≤ 31
      rw [ef j hj]
      have := dif_lt (b := 2 ^ i) (hf0 j hj)
      omega)
  · obtain ⟨s1, s2⟩ := sub a v ha hv
    exact hd2 v (x8 a (hd a ha).1 v s1) (Ne.symm s2)
  · have hok := okM_del (i := i) x3 hM
    exact okM_mk (N := va_up (helN M i 0) 7 g) hok.1 (okM_2 (N := M) hM) (okM_3 (N := M) hM) (okM_4 (N := M) hM) (okM_5 (N := M) hM) (okM_6 (N := M) hM) (fun j hj => by
      show g j ≤ 31
      rw [eg j hj]
      have := dif_lt (b := 2 ^ i) (hM.2 j hj).2.2.2.2.2
      omega)
  · show (g b).testBit a = (f a).testBit b
    obtain ⟨a1, a2⟩ := hd a ha
    obtain ⟨b1, b2⟩ := hd b hb
    rw [ef2 a b ha, eg2 b a (lt5_of x3 b1), hR.2 a b a1 b1]
    simp [Ne.symm a2, Ne.symm b2]
  · have hv : (g q).testBit v = true := hv
    obtain ⟨q1, q2⟩ := hd q hq
    rw [eg2 q v (lt5_of x3 q1)] at hv
    simp at hv
    exact hd2 v (hS q q1 v hv.1) (fun z => hv.2 z.symm)
/-! answers -/
theorem op_opt {g fb mb : Nat} {N0 M0 : Nat → Nat → Nat} {r1 r2 : Int32} (hg : g < 32) (hR : RelD g N0 M0) (hF : FE N0 (-1) 0 g cap) (hc : cap ≤ 1000) (hx : OptX N0 (-1) fb g r1) (hm : OptM g M0 (-1) mb r2) : r1 = r2 := by
  obtain ⟨v2, rfl, m1, m2⟩ := hm
  rcases hx with ⟨rfl, rfl⟩ | ⟨h0, v1, rfl, y1, y2⟩
  · have : v2 ≤ -2000 := (m2 (-2000) (by omega) (by omega)).mpr ((fe_fm hR (by omega)).mp FE_0)
    have : v2 = -2000 := by omega
    rw [this]
    decide
  · have a1 : v1 ≤ cap := (y2 cap (by omega)).mpr (fe_m1 hF)
    have a2 : v2 ≤ v1 := (m2 v1 (by omega) (by omega)).mpr ((fe_fm hR (by omega)).mp (fe_m1 ((y2 v1 (by omega)).mp (Int.le_refl _))))
    have a3 : v1 ≤ v2 := (y2 v2 (by omega)).mpr (fe_m1 ((fe_fm (fb := mb) hR (by omega)).mpr ((m2 v2 (by omega) (by omega)).mp (Int.le_refl _))))
    have : v1 = v2 := by omega
    rw [this]
theorem reld_sub {g g' : Nat} (hR : RelD g N M) (hs : ∀ j, g'.testBit j = true → g.testBit j = true) : RelD g' N M := ⟨fun j hj => hR.1 j (hs j hj), fun i j hi hj => hR.2 i j (hs i hi) (hs j hj)⟩
theorem full_0 (hM : okM pr M) (hp : pr < 32) (hl : ∀ j, pr.testBit j = true → 1 ≤ M 3 j) : fullN M = 0 ↔ pr = 0 := by
  constructor
  · intro h
    refine Classical.byContradiction fun h0 => ?_
    obtain ⟨i, hi, hb⟩ := bit_ne hp h0
    have a1 := full_dg hM hi
    rw [h, if_pos ((okM_1 hM hi).mpr hb)] at a1
    have a2 := hl i hb
    unfold dg at a1
    rw [Nat.zero_div] at a1
    omega
  · intro h
    subst h
    have e : fullN M = enc (fun _ => 0) := enc_congr fun j hj => by
      show (if M 1 j = 1 then M 3 j else 0) = 0
      rw [if_neg]
      intro z
      have := (okM_1 hM hj).mp z
      simp at this
    rw [e]
    rfl
theorem op_span {e : Nat} {fd : Int} {mb : Nat} (h : REL cp cap pr N M) (hx : SpanIs pr (N 1) (N 2) (EN N) e) (hm : FDP M (-1) mb 34 fd) : fd = (e : Int) := by
  obtain ⟨⟨x1, x2, x3, x4, x5, x6, x7, x8, x9, x10⟩, hM, hR, hS⟩ := h
  have hl : ∀ j, pr.testBit j = true → 1 ≤ M 3 j := fun j hj => by rw [(hR.1 j hj).2.1]; exact x7 j hj
  have hf0 := full_0 hM x3 hl
  -- reached at T: all can be done by T
  have key : ∀ T, T ≤ 34 → (Rch M (-1) mb 9998 T (fullN M) ↔ e ≤ T) := by
    intro T hT
    constructor
    · intro z
      have z1 := rch_feas x3 hM z
      obtain ⟨σ, v, hc⟩ := feasT_cong (T := T) (rel' := N 1) (len' := N 2) (E' := EN N) (ok' := anyT) z1 (fun j hj => Nat.le_of_eq (hR.1 j hj).1.symm) (fun j hj => (hR.1 j hj).2.1.symm) (fun i j hi hj z => by unfold EN at z; unfold EM; rw [hR.2 i j hi hj]; exact z) (fun _ _ _ _ _ => trivial)
      exact hx.2 σ T v hc
    · intro z
      obtain ⟨σ, v, hc⟩ := hx.1
      have z1 : FeasT pr (N 1) (N 2) (EN N) anyT T := ⟨σ, v, fun j hj => Nat.le_trans (hc j hj) (cnt_mono z)⟩
      refine feas_rch x3 hM (feasT_cong (T := T) z1 (fun j hj => Nat.le_of_eq (hR.1 j hj).1) (fun j hj => (hR.1 j hj).2.1) (fun i j hi hj z => by unfold EM at z; unfold EN; rw [← hR.2 i j hi hj]; exact z) (fun j t hj ht _ => ⟨Or.inl (by omega), ?_⟩))
      have := (cst_bd (k := M 4 j) (d := M 5 j) (w := M 6 j) (t := t + 1) (hM.2 j (lt5_of x3 hj)).2.2.2.1 (hM.2 j (lt5_of x3 hj)).2.2.2.2.1 (by omega)).2
      omega
  have he34 : e ≤ 34 := by
    obtain ⟨σ, v, hc⟩ := feas_ok (ok' := anyT) x10 (fun _ _ _ _ _ => trivial)
    exact hx.2 σ 34 v hc
  rcases hm with ⟨m1, m2⟩ | ⟨m1, ⟨m2, m3⟩ | ⟨τ, m2, m3, m4, m5⟩⟩
  · have h0 := hf0.mp m1
    subst h0
    have : e ≤ 0 := hx.2 (fun _ => 5) 0 (fun t ht => absurd ht (Nat.lt_irrefl 5)) (fun j hj => by simp at hj)
    omega
  · exact absurd ((key 34 (Nat.le_refl _)).mpr he34) (m3 34 (Nat.le_refl _))
  · have a1 := (key τ m3).mp m4
    have a2 : ¬ e < τ := fun z => m5 e z ((key e he34).mpr (Nat.le_refl _))
    omega
theorem op_fin {i f : Nat} {least : Int} (h : REL cp cap pr N M) (hi : i < 5) (h1 : 1 ≤ f) (h2 : f ≤ 60) (h3 : ∀ f', 1 ≤ f' → f' < f → ¬ FE N (i : Int) f' pr cap) (h4 : FE N (i : Int) f pr cap ∨ f = 60) (hm : EFP (fun f => FM pr M (i : Int) f cap) 0 least) : least = (f : Int) := by
  obtain ⟨⟨x1, x2, x3, x4, x5, x6, x7, x8, x9, x10⟩, hM, hR, hS⟩ := h
  have e : ∀ f, FE N (i : Int) f pr cap ↔ FM pr M (i : Int) f cap := fun f => fe_fm hR (by omega)
  have p34 : FE N (i : Int) 34 pr cap := feas_ok x10 fun j t hj ht z => by
    unfold okc cnow at z ⊢
    rw [if_neg (by omega)] at z
    rw [if_neg (by omega)]
    exact z
  have hf34 : f ≤ 34 := Classical.byContradiction fun z => h3 34 (by omega) (by omega) p34
  have hpf : FE N (i : Int) f pr cap := by
    rcases h4 with z | z
    · exact z
    · omega
  rcases hm with ⟨-, m2⟩ | ⟨q, m1, m2, m3, m4, m5⟩
  · exact absurd ((e 34).mp p34) (m2 34 (by omega) (by omega))
  · have a1 : ¬ q < f := fun z => h3 q (by omega) z ((e q).mpr m4)
    have a2 : ¬ f < q := fun z => m5 f (by omega) z ((e f).mp hpf)
    omega
theorem op_delay {i a a' fb mb : Nat} (h : REL cp cap pr N M) (hi : pr.testBit i = true) (h1 : a ≤ 9) (h2 : ∀ q, 1 ≤ q → q ≤ a → FE (relN N i (N 1 i + q)) (-1) fb pr cap) (h3 : a = 9 ∨ ¬ FE (relN N i (N 1 i + (a + 1))) (-1) fb pr cap) (hm : DYP (fun q => FM pr (relM M i (M 2 i + q)) (-1) mb cap) 10 a') : a = a' := by
  obtain ⟨⟨x1, x2, x3, x4, x5, x6, x7, x8, x9, x10⟩, hM, hR, hS⟩ := h
  have hD : ∀ q, RelD pr (relN N i (N 1 i + q)) (relM M i (M 2 i + q)) := by
    intro q
    refine ⟨fun j hj => ?_, hR.2⟩
    obtain ⟨a1, a2⟩ := hR.1 j hj
    refine ⟨?_, a2⟩
    show va_up (M 2) i (M 2 i + q) j = va_up (N 1) i (N 1 i + q) j
    rw [(hR.1 i hi).1]
    exact up2 fun _ => a1
  have e : ∀ q, FE (relN N i (N 1 i + q)) (-1) fb pr cap ↔ FM pr (relM M i (M 2 i + q)) (-1) mb cap := fun q => ⟨fun z => (fe_fm (hD q) (by omega)).mp (fe_m1 z), fun z => fe_m1 ((fe_fm (fb := mb) (hD q) (by omega)).mpr z)⟩
  have anti : ∀ p q, p ≤ q → FE (relN N i (N 1 i + q)) (-1) fb pr cap → FE (relN N i (N 1 i + p)) (-1) fb pr cap := by
    intro p q hpq z
    refine fe_cong z (fun j _ => ⟨?_, rfl, rfl, rfl, rfl⟩) (fun _ _ _ _ w => w)
    show va_up (N 1) i (N 1 i + p) j ≤ va_up (N 1) i (N 1 i + q) j
    by_cases hc : j = i
    · rw [hc, va_up_self, va_up_self]; omega
    · rw [va_up_ne _ _ hc, va_up_ne _ _ hc]; exact Nat.le_refl _
  obtain ⟨m1, m2, m3, m4⟩ := hm
  rcases Nat.lt_trichotomy a a' with q | q | q
  · rcases m3 with z | z
    · omega
    · have := anti (a + 1) a' (by omega) ((e a').mpr z)
      rcases h3 with y | y
      · omega
      · exact absurd this y
  · exact q
  · exact absurd ((e a).mp (h2 a (by omega) (Nat.le_refl _))) (m4 a q (by omega))
end OPS
end
section
/-! ===== the constructors ===== -/
theorem in_oi_X : Cond.methodLink R_X 1 objectInit ∈ wk_tbl := mem_at 8 rfl
theorem in_oi_M : Cond.methodLink R_M 1 objectInit ∈ wk_tbl := mem_at 192 rfl
theorem in_oinst : Cond.instanceMethod objectInit ∈ wk_tbl := mem_at 9 rfl
theorem in_ocode : Cond.code objectInit ⟨#[0xb1]⟩ 1 none ∈ wk_tbl := mem_at 10 rfl
theorem in_arr_byte : Cond.arrayClass .byte ∈ wk_tbl := mem_at 57 rfl
theorem in_arr_boolean : Cond.arrayClass .boolean ∈ wk_tbl := mem_at 236 rfl
theorem in_arr_int : Cond.arrayClass .int ∈ wk_tbl := mem_at 237 rfl
theorem in_cl_X : Cond.classLink R_law 7 R_X ∈ wk_tbl := mem_at 3 rfl
theorem in_cl_M : Cond.classLink R_law 18 R_M ∈ wk_tbl := mem_at 187 rfl
theorem in_ins_X : Cond.instantiable R_X 15 ∈ wk_tbl := mem_at 4 rfl
theorem in_ins_M : Cond.instantiable R_M 14 ∈ wk_tbl := mem_at 188 rfl
theorem in_im_X : Cond.instanceMethod y_X_init ∈ wk_tbl := mem_at 6 rfl
theorem in_im_M : Cond.instanceMethod y_M_init ∈ wk_tbl := mem_at 190 rfl
theorem in_st_cell : Cond.static y_L_cell ∈ wk_tbl := mem_at 185 rfl
theorem cell0 (n : Nat) (ty : FieldType) (h : defaultValue ty = .int 0) : ∀ cA : ClassId, vp_cell cA (n, .inl (fun _ => nI 0)) = arrV cA n (fun _ => defaultValue ty) := by
  intro cA
  rw [vp_cell_i, nI_0, h]
theorem iI_0 : iI 0 = 0 := by decide +kernel
theorem cell0i (n : Nat) (ty : FieldType) (h : defaultValue ty = .int 0) : ∀ cA : ClassId, vp_cell cA (n, .inl (fun _ => iI 0)) = arrV cA n (fun _ => defaultValue ty) := by
  intro cA
  rw [vp_cell_i, iI_0, h]
def clC (x : Int32) : Nat := if x.toInt < 1 then 1 else if 5 < x.toInt then 5 else x.toInt.toNat
def clK (y : Int32) : Int := if y.toInt < -200 then -200 else if 1000 < y.toInt then 1000 else y.toInt
theorem clC_bd (x : Int32) : 1 ≤ clC x ∧ clC x ≤ 5 := by
  unfold clC
  split
  · omega
  · split <;> omega
theorem clK_bd (y : Int32) : -200 ≤ clK y ∧ clK y ≤ 1000 := by
  unfold clK
  split
  · omega
  · split <;> omega
theorem i1 : (1 : Int32).toInt = 1 := by decide
theorem i5 : (5 : Int32).toInt = 5 := by decide
theorem i200 : (-200 : Int32).toInt = -200 := by decide
theorem i1000 : (1000 : Int32).toInt = 1000 := by decide
theorem clC_1 {x : Int32} (h : ¬ (1 : Int32) ≤ x) : (1 : Int32) = nI (clC x) := by
  rw [Int32.le_iff_toInt_le, i1] at h
  unfold clC
  rw [if_pos (by omega)]
  decide
theorem clC_5 {x : Int32} (h : (1 : Int32) ≤ x) (h2 : ¬ x ≤ (5 : Int32)) : (5 : Int32) = nI (clC x) := by
  rw [Int32.le_iff_toInt_le, i1] at h
  rw [Int32.le_iff_toInt_le, i5] at h2
  unfold clC
  rw [if_neg (by omega), if_pos (by omega)]
  decide
theorem clC_x {x : Int32} (h : (1 : Int32) ≤ x) (h2 : x ≤ (5 : Int32)) : x = nI (clC x) := by
  rw [Int32.le_iff_toInt_le, i1] at h
  rw [Int32.le_iff_toInt_le, i5] at h2
  unfold clC
  rw [if_neg (by omega), if_neg (by omega)]
  obtain ⟨j, hj, rfl⟩ := of_rng (x := x) (n := 6) (by omega) (by omega)
  rw [tI j (by omega)]
  rfl
theorem clK_1 {y : Int32} (h : ¬ (-200 : Int32) ≤ y) : (-200 : Int32) = iI (clK y) := by
  rw [Int32.le_iff_toInt_le, i200] at h
  unfold clK
  rw [if_pos (by omega)]
  decide
theorem clK_2 {y : Int32} (h : (-200 : Int32) ≤ y) (h2 : ¬ y ≤ (1000 : Int32)) : (1000 : Int32) = iI (clK y) := by
  rw [Int32.le_iff_toInt_le, i200] at h
  rw [Int32.le_iff_toInt_le, i1000] at h2
  unfold clK
  rw [if_neg (by omega), if_pos (by omega)]
  decide
theorem clK_y {y : Int32} (h : (-200 : Int32) ≤ y) (h2 : y ≤ (1000 : Int32)) : y = iI (clK y) := by
  rw [Int32.le_iff_toInt_le, i200] at h
  rw [Int32.le_iff_toInt_le, i1000] at h2
  unfold clK
  rw [if_neg (by omega), if_neg (by omega)]
  exact (Int32.ofInt_toInt y).symm
def fs0X : List Value := [.int 0, .int 0, .int 0, .null, .null, .null, .null, .null, .null, .int 0, .int 0, .null, .null, .int 0, .int 0]
def fs0M : List Value := [.int 0, .int 0, .null, .null, .null, .null, .null, .null, .null, .null, .int 0, .int 0, .int 0, .int 0]
def adr (a0 a1 a2 a3 a4 a5 a6 a7 a8 : Nat) : Nat → Nat := fun k => match k with
  | 0 => a0
  | 1 => a1
  | 2 => a2
  | 3 => a3
  | 4 => a4
  | 5 => a5
  | 6 => a6
  | 7 => a7
  | _ => a8
def cla (c1 c2 c3 c4 c5 c6 c7 c8 : ClassId) : Nat → ClassId := fun k => match k with
  | 1 => c1
  | 2 => c2
  | 3 => c3
  | 4 => c4
  | 5 => c5
  | 6 => c6
  | 7 => c7
  | _ => c8
theorem d_X_init_0 : decode b_X_init 0 = .ok (.aload_n 0, 1) := by decide +kernel
theorem d_X_init_1 : decode b_X_init 1 = .ok (.invokespecial 1, 3) := by decide +kernel
theorem d_X_init_4 : decode b_X_init 4 = .ok (.aload_n 0, 1) := by decide +kernel
theorem d_X_init_5 : decode b_X_init 5 = .ok (.iconst 5, 1) := by decide +kernel
theorem d_X_init_6 : decode b_X_init 6 = .ok (.newarray .byte, 2) := by decide +kernel
theorem d_X_init_8 : decode b_X_init 8 = .ok (.putfield 7, 3) := by decide +kernel
theorem d_X_init_11 : decode b_X_init 11 = .ok (.aload_n 0, 1) := by decide +kernel
theorem d_X_init_12 : decode b_X_init 12 = .ok (.iconst 5, 1) := by decide +kernel
theorem d_X_init_13 : decode b_X_init 13 = .ok (.newarray .byte, 2) := by decide +kernel
theorem d_X_init_15 : decode b_X_init 15 = .ok (.putfield 13, 3) := by decide +kernel
theorem d_X_init_18 : decode b_X_init 18 = .ok (.aload_n 0, 1) := by decide +kernel
theorem d_X_init_19 : decode b_X_init 19 = .ok (.iconst 5, 1) := by decide +kernel
theorem d_X_init_20 : decode b_X_init 20 = .ok (.newarray .byte, 2) := by decide +kernel
theorem d_X_init_22 : decode b_X_init 22 = .ok (.putfield 16, 3) := by decide +kernel
theorem d_X_init_25 : decode b_X_init 25 = .ok (.aload_n 0, 1) := by decide +kernel
theorem d_X_init_26 : decode b_X_init 26 = .ok (.iconst 5, 1) := by decide +kernel
theorem d_X_init_27 : decode b_X_init 27 = .ok (.newarray .byte, 2) := by decide +kernel
theorem d_X_init_29 : decode b_X_init 29 = .ok (.putfield 19, 3) := by decide +kernel
theorem d_X_init_32 : decode b_X_init 32 = .ok (.aload_n 0, 1) := by decide +kernel
theorem d_X_init_33 : decode b_X_init 33 = .ok (.iconst 5, 1) := by decide +kernel
theorem d_X_init_34 : decode b_X_init 34 = .ok (.newarray .byte, 2) := by decide +kernel
theorem d_X_init_36 : decode b_X_init 36 = .ok (.putfield 22, 3) := by decide +kernel
theorem d_X_init_39 : decode b_X_init 39 = .ok (.aload_n 0, 1) := by decide +kernel
theorem d_X_init_40 : decode b_X_init 40 = .ok (.iconst 5, 1) := by decide +kernel
theorem d_X_init_41 : decode b_X_init 41 = .ok (.newarray .byte, 2) := by decide +kernel
theorem d_X_init_43 : decode b_X_init 43 = .ok (.putfield 25, 3) := by decide +kernel
theorem d_X_init_46 : decode b_X_init 46 = .ok (.aload_n 0, 1) := by decide +kernel
theorem d_X_init_47 : decode b_X_init 47 = .ok (.iconst (-1), 1) := by decide +kernel
theorem d_X_init_48 : decode b_X_init 48 = .ok (.putfield 28, 3) := by decide +kernel
theorem d_X_init_51 : decode b_X_init 51 = .ok (.aload_n 0, 1) := by decide +kernel
theorem d_X_init_52 : decode b_X_init 52 = .ok (.iconst 5, 1) := by decide +kernel
theorem d_X_init_53 : decode b_X_init 53 = .ok (.newarray .byte, 2) := by decide +kernel
theorem d_X_init_55 : decode b_X_init 55 = .ok (.putfield 32, 3) := by decide +kernel
theorem d_X_init_58 : decode b_X_init 58 = .ok (.aload_n 0, 1) := by decide +kernel
theorem d_X_init_59 : decode b_X_init 59 = .ok (.bipush 16, 2) := by decide +kernel
theorem d_X_init_61 : decode b_X_init 61 = .ok (.newarray .byte, 2) := by decide +kernel
theorem d_X_init_63 : decode b_X_init 63 = .ok (.putfield 35, 3) := by decide +kernel
theorem d_X_init_66 : decode b_X_init 66 = .ok (.aload_n 0, 1) := by decide +kernel
theorem d_X_init_67 : decode b_X_init 67 = .ok (.iload_n 1, 1) := by decide +kernel
theorem d_X_init_68 : decode b_X_init 68 = .ok (.iconst 1, 1) := by decide +kernel
theorem d_X_init_69 : decode b_X_init 69 = .ok (.if_icmp .ge 7, 3) := by decide +kernel
theorem d_X_init_72 : decode b_X_init 72 = .ok (.iconst 1, 1) := by decide +kernel
theorem d_X_init_73 : decode b_X_init 73 = .ok (.goto 13, 3) := by decide +kernel
theorem d_X_init_76 : decode b_X_init 76 = .ok (.iload_n 1, 1) := by decide +kernel
theorem d_X_init_77 : decode b_X_init 77 = .ok (.iconst 5, 1) := by decide +kernel
theorem d_X_init_78 : decode b_X_init 78 = .ok (.if_icmp .le 7, 3) := by decide +kernel
theorem d_X_init_81 : decode b_X_init 81 = .ok (.iconst 5, 1) := by decide +kernel
theorem d_X_init_82 : decode b_X_init 82 = .ok (.goto 4, 3) := by decide +kernel
theorem d_X_init_85 : decode b_X_init 85 = .ok (.iload_n 1, 1) := by decide +kernel
theorem d_X_init_86 : decode b_X_init 86 = .ok (.putfield 38, 3) := by decide +kernel
theorem d_X_init_89 : decode b_X_init 89 = .ok (.aload_n 0, 1) := by decide +kernel
theorem d_X_init_90 : decode b_X_init 90 = .ok (.iload_n 2, 1) := by decide +kernel
theorem d_X_init_91 : decode b_X_init 91 = .ok (.sipush (-200), 3) := by decide +kernel
theorem d_X_init_94 : decode b_X_init 94 = .ok (.if_icmp .ge 9, 3) := by decide +kernel
theorem d_X_init_97 : decode b_X_init 97 = .ok (.sipush (-200), 3) := by decide +kernel
theorem d_X_init_100 : decode b_X_init 100 = .ok (.goto 17, 3) := by decide +kernel
theorem d_X_init_103 : decode b_X_init 103 = .ok (.iload_n 2, 1) := by decide +kernel
theorem d_X_init_104 : decode b_X_init 104 = .ok (.sipush 1000, 3) := by decide +kernel
theorem d_X_init_107 : decode b_X_init 107 = .ok (.if_icmp .le 9, 3) := by decide +kernel
theorem d_X_init_110 : decode b_X_init 110 = .ok (.sipush 1000, 3) := by decide +kernel
theorem d_X_init_113 : decode b_X_init 113 = .ok (.goto 4, 3) := by decide +kernel
theorem d_X_init_116 : decode b_X_init 116 = .ok (.iload_n 2, 1) := by decide +kernel
theorem d_X_init_117 : decode b_X_init 117 = .ok (.putfield 41, 3) := by decide +kernel
theorem d_X_init_120 : decode b_X_init 120 = .ok (.return_, 1) := by decide +kernel
theorem d_M_init_0 : decode b_M_init 0 = .ok (.aload_n 0, 1) := by decide +kernel
theorem d_M_init_1 : decode b_M_init 1 = .ok (.invokespecial 1, 3) := by decide +kernel
theorem d_M_init_4 : decode b_M_init 4 = .ok (.aload_n 0, 1) := by decide +kernel
theorem d_M_init_5 : decode b_M_init 5 = .ok (.iconst 5, 1) := by decide +kernel
theorem d_M_init_6 : decode b_M_init 6 = .ok (.newarray .boolean, 2) := by decide +kernel
theorem d_M_init_8 : decode b_M_init 8 = .ok (.putfield 7, 3) := by decide +kernel
theorem d_M_init_11 : decode b_M_init 11 = .ok (.aload_n 0, 1) := by decide +kernel
theorem d_M_init_12 : decode b_M_init 12 = .ok (.iconst 5, 1) := by decide +kernel
theorem d_M_init_13 : decode b_M_init 13 = .ok (.newarray .int, 2) := by decide +kernel
theorem d_M_init_15 : decode b_M_init 15 = .ok (.putfield 13, 3) := by decide +kernel
theorem d_M_init_18 : decode b_M_init 18 = .ok (.aload_n 0, 1) := by decide +kernel
theorem d_M_init_19 : decode b_M_init 19 = .ok (.iconst 5, 1) := by decide +kernel
theorem d_M_init_20 : decode b_M_init 20 = .ok (.newarray .int, 2) := by decide +kernel
theorem d_M_init_22 : decode b_M_init 22 = .ok (.putfield 17, 3) := by decide +kernel
theorem d_M_init_25 : decode b_M_init 25 = .ok (.aload_n 0, 1) := by decide +kernel
theorem d_M_init_26 : decode b_M_init 26 = .ok (.iconst 5, 1) := by decide +kernel
theorem d_M_init_27 : decode b_M_init 27 = .ok (.newarray .int, 2) := by decide +kernel
theorem d_M_init_29 : decode b_M_init 29 = .ok (.putfield 20, 3) := by decide +kernel
theorem d_M_init_32 : decode b_M_init 32 = .ok (.aload_n 0, 1) := by decide +kernel
theorem d_M_init_33 : decode b_M_init 33 = .ok (.iconst 5, 1) := by decide +kernel
theorem d_M_init_34 : decode b_M_init 34 = .ok (.newarray .int, 2) := by decide +kernel
theorem d_M_init_36 : decode b_M_init 36 = .ok (.putfield 23, 3) := by decide +kernel
theorem d_M_init_39 : decode b_M_init 39 = .ok (.aload_n 0, 1) := by decide +kernel
theorem d_M_init_40 : decode b_M_init 40 = .ok (.iconst 5, 1) := by decide +kernel
theorem d_M_init_41 : decode b_M_init 41 = .ok (.newarray .int, 2) := by decide +kernel
theorem d_M_init_43 : decode b_M_init 43 = .ok (.putfield 26, 3) := by decide +kernel
theorem d_M_init_46 : decode b_M_init 46 = .ok (.aload_n 0, 1) := by decide +kernel
theorem d_M_init_47 : decode b_M_init 47 = .ok (.iconst 5, 1) := by decide +kernel
theorem d_M_init_48 : decode b_M_init 48 = .ok (.newarray .int, 2) := by decide +kernel
theorem d_M_init_50 : decode b_M_init 50 = .ok (.putfield 29, 3) := by decide +kernel
theorem d_M_init_53 : decode b_M_init 53 = .ok (.aload_n 0, 1) := by decide +kernel
theorem d_M_init_54 : decode b_M_init 54 = .ok (.sipush 1024, 3) := by decide +kernel
theorem d_M_init_57 : decode b_M_init 57 = .ok (.newarray .int, 2) := by decide +kernel
theorem d_M_init_59 : decode b_M_init 59 = .ok (.putfield 32, 3) := by decide +kernel
theorem d_M_init_62 : decode b_M_init 62 = .ok (.aload_n 0, 1) := by decide +kernel
theorem d_M_init_63 : decode b_M_init 63 = .ok (.iconst (-1), 1) := by decide +kernel
theorem d_M_init_64 : decode b_M_init 64 = .ok (.putfield 35, 3) := by decide +kernel
theorem d_M_init_67 : decode b_M_init 67 = .ok (.aload_n 0, 1) := by decide +kernel
theorem d_M_init_68 : decode b_M_init 68 = .ok (.iload_n 1, 1) := by decide +kernel
theorem d_M_init_69 : decode b_M_init 69 = .ok (.iconst 1, 1) := by decide +kernel
theorem d_M_init_70 : decode b_M_init 70 = .ok (.if_icmp .ge 7, 3) := by decide +kernel
theorem d_M_init_73 : decode b_M_init 73 = .ok (.iconst 1, 1) := by decide +kernel
theorem d_M_init_74 : decode b_M_init 74 = .ok (.goto 13, 3) := by decide +kernel
theorem d_M_init_77 : decode b_M_init 77 = .ok (.iload_n 1, 1) := by decide +kernel
theorem d_M_init_78 : decode b_M_init 78 = .ok (.iconst 5, 1) := by decide +kernel
theorem d_M_init_79 : decode b_M_init 79 = .ok (.if_icmp .le 7, 3) := by decide +kernel
theorem d_M_init_82 : decode b_M_init 82 = .ok (.iconst 5, 1) := by decide +kernel
theorem d_M_init_83 : decode b_M_init 83 = .ok (.goto 4, 3) := by decide +kernel
theorem d_M_init_86 : decode b_M_init 86 = .ok (.iload_n 1, 1) := by decide +kernel
theorem d_M_init_87 : decode b_M_init 87 = .ok (.putfield 39, 3) := by decide +kernel
theorem d_M_init_90 : decode b_M_init 90 = .ok (.aload_n 0, 1) := by decide +kernel
theorem d_M_init_91 : decode b_M_init 91 = .ok (.iload_n 2, 1) := by decide +kernel
theorem d_M_init_92 : decode b_M_init 92 = .ok (.sipush (-200), 3) := by decide +kernel
theorem d_M_init_95 : decode b_M_init 95 = .ok (.if_icmp .ge 9, 3) := by decide +kernel
theorem d_M_init_98 : decode b_M_init 98 = .ok (.sipush (-200), 3) := by decide +kernel
theorem d_M_init_101 : decode b_M_init 101 = .ok (.goto 17, 3) := by decide +kernel
theorem d_M_init_104 : decode b_M_init 104 = .ok (.iload_n 2, 1) := by decide +kernel
theorem d_M_init_105 : decode b_M_init 105 = .ok (.sipush 1000, 3) := by decide +kernel
theorem d_M_init_108 : decode b_M_init 108 = .ok (.if_icmp .le 9, 3) := by decide +kernel
theorem d_M_init_111 : decode b_M_init 111 = .ok (.sipush 1000, 3) := by decide +kernel
theorem d_M_init_114 : decode b_M_init 114 = .ok (.goto 4, 3) := by decide +kernel
theorem d_M_init_117 : decode b_M_init 117 = .ok (.iload_n 2, 1) := by decide +kernel
theorem d_M_init_118 : decode b_M_init 118 = .ok (.putfield 42, 3) := by decide +kernel
theorem d_M_init_121 : decode b_M_init 121 = .ok (.return_, 1) := by decide +kernel
set_option maxHeartbeats 4000000 in
set_option maxRecDepth 100000 in
/-- the constructor of X -/
theorem c_X_init (l : Launch) (D : va_G) (h0 sz : Nat) (x y : Int32) : Met l y_X_init (Cond.code y_X_init b_X_init 3 none :: wk_tbl) ({ frames := 1, cells := 8, slots := 51, locals := 12 }) (va_Pc [.ref h0, .int x, .int y] (fun U => U.heap.size = sz ∧ va_P D classes [(h0, .inr (0, fs0X))] U.heap ∧ va_K D classes [] U ∧ va_D (fun _ => True) [(h0, .inr (0, fs0X))])) (va_Qv (fun u : (Nat → Nat) × (Nat → ClassId) => u.1 0 = h0) (fun u t => va_P D classes (wX u.1 u.2 (clC x, clK y, 0, (-1), 0, 0, 0, fun _ _ => 0)) t.heap ∧ va_K D classes (tysX u.2) t ∧ va_D (va_A [(h0, .inr (0, fs0X))] sz) (wX u.1 u.2 (clC x, clK y, 0, (-1), 0, 0, 0, fun _ _ => 0))) (va_A [(h0, .inr (0, fs0X))] sz)) 8 51 (va_A [(h0, .inr (0, fs0X))] sz) := by
  refine Met.ofW (cc := b_X_init) (maxL := 3) (ret := none) (by decide) rfl ?_
  intro p e s m args below meth c s₁ B hml hv
  obtain ⟨rfl, hsz, hP, hK, hD0⟩ := hv
  have hx := B.exec
  have hb := B.bytes
  have hr := B.returns
  have hts0 := atoms_spec (ws := Cond.code y_X_init b_X_init 3 none :: wk_tbl) B.pre
  have hts : ∀ w ∈ wk_tbl, w.before ([.ref h0, .int x, .int y] : List Value).toArray s = true := fun w h => hts0 w (List.mem_cons_of_mem _ h)
  have hown : s.vm.findClass R_X = some m.cls := findClass_of_methodNamed B.named
  have hlocks := B.notSynchronized
  have hin : meth.name = "<init>" := (name_of_methodNamed B.named B.method).1
  subst hsz
  have hD := hD0.self (sz := s.heap.size)
  generalize hAe : va_A [(h0, .inr (0, fs0X))] s.heap.size = A at hD ⊢
  have hA : ∀ q : Nat, s.heap.size ≤ q → A q := fun q h => by rw [← hAe]; exact Or.inr h
  have hS : va_S A s.heap s.heap [] := va_S.rf
  have hP : va_P D classes [(h0, .inr (0, [.int 0, .int 0, .int 0, .null, .null, .null, .null, .null, .null, .int 0, .int 0, .null, .null, .int 0, .int 0]))] s.heap := hP
  have hD : va_D A [(h0, .inr (0, [.int 0, .int 0, .int 0, .null, .null, .null, .null, .null, .null, .int 0, .int 0, .null, .null, .int 0, .int 0]))] := hD
  have hl := lv_entry ([.ref h0, .int x, .int y]) (n := 3) (Nat.le_of_ble_eq_true rfl)
  rw [lg_entry_eq]
  generalize (lg_sl ([.ref h0, .int x, .int y]) ++ List.replicate (3 - (lg_sl ([.ref h0, .int x, .int y])).length) Slot.unset).toArray = ls at hl ⊢
  have hl : lv_has ls 3 [(0, .ref h0), (1, .int x), (2, .int y)] := hl
  refine lv_aload_n hx hb d_X_init_0 rfl (lv_at hl 0 rfl) ?_
  refine W.objInit hx hb hown (hts _ in_oi_X) (hts _ in_oinst) (hts _ in_ocode) rfl (by rw [hml]; exact hl.1) rfl d_X_init_1 (Nat.le_of_ble_eq_true rfl) (Nat.le_of_ble_eq_true rfl) ?_
  refine W.eq (g2 := F0 m 4 ls []) rfl ?_
  refine lv_aload_n hx hb d_X_init_4 rfl (lv_at hl 0 rfl) ?_
  refine lv_iconst (v := 5) hx hb d_X_init_5 (by decide) ?_
  refine va_newa (atype := .byte) (ty := .byte) (a0 := (5, .inl (fun _ => nI 0))) (N' := 5) hx hb (hts _ in_arr_byte) rfl hK hP hD hS hA (cell0 5 .byte rfl) (by decide) (by decide) (by decide) (Nat.le_of_ble_eq_true rfl) (Nat.le_of_ble_eq_true rfl) d_X_init_6 (fun q1 c1 H hK hP hD hS => ?_)
  have hP : va_P D classes [(h0, .inr (0, [.int 0, .int 0, .int 0, .null, .null, .null, .null, .null, .null, .int 0, .int 0, .null, .null, .int 0, .int 0])), (q1, .inl (c1, 5, .inl (fun _ => nI 0)))] H := hP
  have hD : va_D A [(h0, .inr (0, [.int 0, .int 0, .int 0, .null, .null, .null, .null, .null, .null, .int 0, .int 0, .null, .null, .int 0, .int 0])), (q1, .inl (c1, 5, .inl (fun _ => nI 0)))] := hD
  have hK : va_K D classes [(c1, .byte)] s := hK
  refine W.widen (k := 1) (n := 5) (Nat.le_of_ble_eq_true rfl) (Nat.le_of_ble_eq_true rfl) ?_
  refine va_putF (D := D) (ci := 0) (v := .ref q1) (ty := .array .byte) (C := R_X) (T := F_X) (N := 15) hx hb hts i_X t_X t_X_ok n_X hown hK hP hD hS 0 rfl rfl 3 (by decide) (hts _ fl_X_3) (fun _ h9 => h9) rfl hin rfl (by decide +kernel) rfl rfl (Nat.le_of_ble_eq_true rfl) d_X_init_8 (fun H locs hP hD hS => ?_)
  have hP : va_P D classes [(h0, .inr (0, [.int 0, .int 0, .int 0, .ref q1, .null, .null, .null, .null, .null, .int 0, .int 0, .null, .null, .int 0, .int 0])), (q1, .inl (c1, 5, .inl (fun _ => nI 0)))] H := hP
  have hD : va_D A [(h0, .inr (0, [.int 0, .int 0, .int 0, .ref q1, .null, .null, .null, .null, .null, .int 0, .int 0, .null, .null, .int 0, .int 0])), (q1, .inl (c1, 5, .inl (fun _ => nI 0)))] := hD
  refine lv_aload_n hx hb d_X_init_11 rfl (lv_at hl 0 rfl) ?_
  refine lv_iconst (v := 5) hx hb d_X_init_12 (by decide) ?_
  refine va_newa (atype := .byte) (ty := .byte) (a0 := (5, .inl (fun _ => nI 0))) (N' := 5) hx hb (hts _ in_arr_byte) rfl hK hP hD hS hA (cell0 5 .byte rfl) (by decide) (by decide) (by decide) (Nat.le_of_ble_eq_true rfl) (Nat.le_of_ble_eq_true rfl) d_X_init_13 (fun q2 c2 H hK hP hD hS => ?_)
  have hP : va_P D classes [(h0, .inr (0, [.int 0, .int 0, .int 0, .ref q1, .null, .null, .null, .null, .null, .int 0, .int 0, .null, .null, .int 0, .int 0])), (q1, .inl (c1, 5, .inl (fun _ => nI 0))), (q2, .inl (c2, 5, .inl (fun _ => nI 0)))] H := hP
  have hD : va_D A [(h0, .inr (0, [.int 0, .int 0, .int 0, .ref q1, .null, .null, .null, .null, .null, .int 0, .int 0, .null, .null, .int 0, .int 0])), (q1, .inl (c1, 5, .inl (fun _ => nI 0))), (q2, .inl (c2, 5, .inl (fun _ => nI 0)))] := hD
  have hK : va_K D classes [(c1, .byte), (c2, .byte)] s := hK
  refine W.widen (k := 2) (n := 10) (Nat.le_of_ble_eq_true rfl) (Nat.le_of_ble_eq_true rfl) ?_
  refine va_putF (D := D) (ci := 0) (v := .ref q2) (ty := .array .byte) (C := R_X) (T := F_X) (N := 15) hx hb hts i_X t_X t_X_ok n_X hown hK hP hD hS 0 rfl rfl 4 (by decide) (hts _ fl_X_4) (fun _ h9 => h9) rfl hin rfl (by decide +kernel) rfl rfl (Nat.le_of_ble_eq_true rfl) d_X_init_15 (fun H locs hP hD hS => ?_)
  have hP : va_P D classes [(h0, .inr (0, [.int 0, .int 0, .int 0, .ref q1, .ref q2, .null, .null, .null, .null, .int 0, .int 0, .null, .null, .int 0, .int 0])), (q1, .inl (c1, 5, .inl (fun _ => nI 0))), (q2, .inl (c2, 5, .inl (fun _ => nI 0)))] H := hP
  have hD : va_D A [(h0, .inr (0, [.int 0, .int 0, .int 0, .ref q1, .ref q2, .null, .null, .null, .null, .int 0, .int 0, .null, .null, .int 0, .int 0])), (q1, .inl (c1, 5, .inl (fun _ => nI 0))), (q2, .inl (c2, 5, .inl (fun _ => nI 0)))] := hD
  refine lv_aload_n hx hb d_X_init_18 rfl (lv_at hl 0 rfl) ?_
  refine lv_iconst (v := 5) hx hb d_X_init_19 (by decide) ?_
  refine va_newa (atype := .byte) (ty := .byte) (a0 := (5, .inl (fun _ => nI 0))) (N' := 5) hx hb (hts _ in_arr_byte) rfl hK hP hD hS hA (cell0 5 .byte rfl) (by decide) (by decide) (by decide) (Nat.le_of_ble_eq_true rfl) (Nat.le_of_ble_eq_true rfl) d_X_init_20 (fun q3 c3 H hK hP hD hS => ?_)
  have hP : va_P D classes [(h0, .inr (0, [.int 0, .int 0, .int 0, .ref q1, .ref q2, .null, .null, .null, .null, .int 0, .int 0, .null, .null, .int 0, .int 0])), (q1, .inl (c1, 5, .inl (fun _ => nI 0))), (q2, .inl (c2, 5, .inl (fun _ => nI 0))), (q3, .inl (c3, 5, .inl (fun _ => nI 0)))] H := hP
  have hD : va_D A [(h0, .inr (0, [.int 0, .int 0, .int 0, .ref q1, .ref q2, .null, .null, .null, .null, .int 0, .int 0, .null, .null, .int 0, .int 0])), (q1, .inl (c1, 5, .inl (fun _ => nI 0))), (q2, .inl (c2, 5, .inl (fun _ => nI 0))), (q3, .inl (c3, 5, .inl (fun _ => nI 0)))] := hD
  have hK : va_K D classes [(c1, .byte), (c2, .byte), (c3, .byte)] s := hK
  refine W.widen (k := 3) (n := 15) (Nat.le_of_ble_eq_true rfl) (Nat.le_of_ble_eq_true rfl) ?_
  refine va_putF (D := D) (ci := 0) (v := .ref q3) (ty := .array .byte) (C := R_X) (T := F_X) (N := 15) hx hb hts i_X t_X t_X_ok n_X hown hK hP hD hS 0 rfl rfl 5 (by decide) (hts _ fl_X_5) (fun _ h9 => h9) rfl hin rfl (by decide +kernel) rfl rfl (Nat.le_of_ble_eq_true rfl) d_X_init_22 (fun H locs hP hD hS => ?_)
  have hP : va_P D classes [(h0, .inr (0, [.int 0, .int 0, .int 0, .ref q1, .ref q2, .ref q3, .null, .null, .null, .int 0, .int 0, .null, .null, .int 0, .int 0])), (q1, .inl (c1, 5, .inl (fun _ => nI 0))), (q2, .inl (c2, 5, .inl (fun _ => nI 0))), (q3, .inl (c3, 5, .inl (fun _ => nI 0)))] H := hP
  have hD : va_D A [(h0, .inr (0, [.int 0, .int 0, .int 0, .ref q1, .ref q2, .ref q3, .null, .null, .null, .int 0, .int 0, .null, .null, .int 0, .int 0])), (q1, .inl (c1, 5, .inl (fun _ => nI 0))), (q2, .inl (c2, 5, .inl (fun _ => nI 0))), (q3, .inl (c3, 5, .inl (fun _ => nI 0)))] := hD
  refine lv_aload_n hx hb d_X_init_25 rfl (lv_at hl 0 rfl) ?_
  refine lv_iconst (v := 5) hx hb d_X_init_26 (by decide) ?_
  refine va_newa (atype := .byte) (ty := .byte) (a0 := (5, .inl (fun _ => nI 0))) (N' := 5) hx hb (hts _ in_arr_byte) rfl hK hP hD hS hA (cell0 5 .byte rfl) (by decide) (by decide) (by decide) (Nat.le_of_ble_eq_true rfl) (Nat.le_of_ble_eq_true rfl) d_X_init_27 (fun q4 c4 H hK hP hD hS => ?_)
  have hP : va_P D classes [(h0, .inr (0, [.int 0, .int 0, .int 0, .ref q1, .ref q2, .ref q3, .null, .null, .null, .int 0, .int 0, .null, .null, .int 0, .int 0])), (q1, .inl (c1, 5, .inl (fun _ => nI 0))), (q2, .inl (c2, 5, .inl (fun _ => nI 0))), (q3, .inl (c3, 5, .inl (fun _ => nI 0))), (q4, .inl (c4, 5, .inl (fun _ => nI 0)))] H := hP
  have hD : va_D A [(h0, .inr (0, [.int 0, .int 0, .int 0, .ref q1, .ref q2, .ref q3, .null, .null, .null, .int 0, .int 0, .null, .null, .int 0, .int 0])), (q1, .inl (c1, 5, .inl (fun _ => nI 0))), (q2, .inl (c2, 5, .inl (fun _ => nI 0))), (q3, .inl (c3, 5, .inl (fun _ => nI 0))), (q4, .inl (c4, 5, .inl (fun _ => nI 0)))] := hD
  have hK : va_K D classes [(c1, .byte), (c2, .byte), (c3, .byte), (c4, .byte)] s := hK
  refine W.widen (k := 4) (n := 20) (Nat.le_of_ble_eq_true rfl) (Nat.le_of_ble_eq_true rfl) ?_
  refine va_putF (D := D) (ci := 0) (v := .ref q4) (ty := .array .byte) (C := R_X) (T := F_X) (N := 15) hx hb hts i_X t_X t_X_ok n_X hown hK hP hD hS 0 rfl rfl 6 (by decide) (hts _ fl_X_6) (fun _ h9 => h9) rfl hin rfl (by decide +kernel) rfl rfl (Nat.le_of_ble_eq_true rfl) d_X_init_29 (fun H locs hP hD hS => ?_)
  have hP : va_P D classes [(h0, .inr (0, [.int 0, .int 0, .int 0, .ref q1, .ref q2, .ref q3, .ref q4, .null, .null, .int 0, .int 0, .null, .null, .int 0, .int 0])), (q1, .inl (c1, 5, .inl (fun _ => nI 0))), (q2, .inl (c2, 5, .inl (fun _ => nI 0))), (q3, .inl (c3, 5, .inl (fun _ => nI 0))), (q4, .inl (c4, 5, .inl (fun _ => nI 0)))] H := hP
  have hD : va_D A [(h0, .inr (0, [.int 0, .int 0, .int 0, .ref q1, .ref q2, .ref q3, .ref q4, .null, .null, .int 0, .int 0, .null, .null, .int 0, .int 0])), (q1, .inl (c1, 5, .inl (fun _ => nI 0))), (q2, .inl (c2, 5, .inl (fun _ => nI 0))), (q3, .inl (c3, 5, .inl (fun _ => nI 0))), (q4, .inl (c4, 5, .inl (fun _ => nI 0)))] := hD
  refine lv_aload_n hx hb d_X_init_32 rfl (lv_at hl 0 rfl) ?_
  refine lv_iconst (v := 5) hx hb d_X_init_33 (by decide) ?_
  refine va_newa (atype := .byte) (ty := .byte) (a0 := (5, .inl (fun _ => nI 0))) (N' := 5) hx hb (hts _ in_arr_byte) rfl hK hP hD hS hA (cell0 5 .byte rfl) (by decide) (by decide) (by decide) (Nat.le_of_ble_eq_true rfl) (Nat.le_of_ble_eq_true rfl) d_X_init_34 (fun q5 c5 H hK hP hD hS => ?_)
  have hP : va_P D classes [(h0, .inr (0, [.int 0, .int 0, .int 0, .ref q1, .ref q2, .ref q3, .ref q4, .null, .null, .int 0, .int 0, .null, .null, .int 0, .int 0])), (q1, .inl (c1, 5, .inl (fun _ => nI 0))), (q2, .inl (c2, 5, .inl (fun _ => nI 0))), (q3, .inl (c3, 5, .inl (fun _ => nI 0))), (q4, .inl (c4, 5, .inl (fun _ => nI 0))), (q5, .inl (c5, 5, .inl (fun _ => nI 0)))] H := hP
  have hD : va_D A [(h0, .inr (0, [.int 0, .int 0, .int 0, .ref q1, .ref q2, .ref q3, .ref q4, .null, .null, .int 0, .int 0, .null, .null, .int 0, .int 0])), (q1, .inl (c1, 5, .inl (fun _ => nI 0))), (q2, .inl (c2, 5, .inl (fun _ => nI 0))), (q3, .inl (c3, 5, .inl (fun _ => nI 0))), (q4, .inl (c4, 5, .inl (fun _ => nI 0))), (q5, .inl (c5, 5, .inl (fun _ => nI 0)))] := hD
  have hK : va_K D classes [(c1, .byte), (c2, .byte), (c3, .byte), (c4, .byte), (c5, .byte)] s := hK
  refine W.widen (k := 5) (n := 25) (Nat.le_of_ble_eq_true rfl) (Nat.le_of_ble_eq_true rfl) ?_
  refine va_putF (D := D) (ci := 0) (v := .ref q5) (ty := .array .byte) (C := R_X) (T := F_X) (N := 15) hx hb hts i_X t_X t_X_ok n_X hown hK hP hD hS 0 rfl rfl 7 (by decide) (hts _ fl_X_7) (fun _ h9 => h9) rfl hin rfl (by decide +kernel) rfl rfl (Nat.le_of_ble_eq_true rfl) d_X_init_36 (fun H locs hP hD hS => ?_)
  have hP : va_P D classes [(h0, .inr (0, [.int 0, .int 0, .int 0, .ref q1, .ref q2, .ref q3, .ref q4, .ref q5, .null, .int 0, .int 0, .null, .null, .int 0, .int 0])), (q1, .inl (c1, 5, .inl (fun _ => nI 0))), (q2, .inl (c2, 5, .inl (fun _ => nI 0))), (q3, .inl (c3, 5, .inl (fun _ => nI 0))), (q4, .inl (c4, 5, .inl (fun _ => nI 0))), (q5, .inl (c5, 5, .inl (fun _ => nI 0)))] H := hP
  have hD : va_D A [(h0, .inr (0, [.int 0, .int 0, .int 0, .ref q1, .ref q2, .ref q3, .ref q4, .ref q5, .null, .int 0, .int 0, .null, .null, .int 0, .int 0])), (q1, .inl (c1, 5, .inl (fun _ => nI 0))), (q2, .inl (c2, 5, .inl (fun _ => nI 0))), (q3, .inl (c3, 5, .inl (fun _ => nI 0))), (q4, .inl (c4, 5, .inl (fun _ => nI 0))), (q5, .inl (c5, 5, .inl (fun _ => nI 0)))] := hD
  refine lv_aload_n hx hb d_X_init_39 rfl (lv_at hl 0 rfl) ?_
  refine lv_iconst (v := 5) hx hb d_X_init_40 (by decide) ?_
  refine va_newa (atype := .byte) (ty := .byte) (a0 := (5, .inl (fun _ => nI 0))) (N' := 5) hx hb (hts _ in_arr_byte) rfl hK hP hD hS hA (cell0 5 .byte rfl) (by decide) (by decide) (by decide) (Nat.le_of_ble_eq_true rfl) (Nat.le_of_ble_eq_true rfl) d_X_init_41 (fun q6 c6 H hK hP hD hS => ?_)
  have hP : va_P D classes [(h0, .inr (0, [.int 0, .int 0, .int 0, .ref q1, .ref q2, .ref q3, .ref q4, .ref q5, .null, .int 0, .int 0, .null, .null, .int 0, .int 0])), (q1, .inl (c1, 5, .inl (fun _ => nI 0))), (q2, .inl (c2, 5, .inl (fun _ => nI 0))), (q3, .inl (c3, 5, .inl (fun _ => nI 0))), (q4, .inl (c4, 5, .inl (fun _ => nI 0))), (q5, .inl (c5, 5, .inl (fun _ => nI 0))), (q6, .inl (c6, 5, .inl (fun _ => nI 0)))] H := hP
  have hD : va_D A [(h0, .inr (0, [.int 0, .int 0, .int 0, .ref q1, .ref q2, .ref q3, .ref q4, .ref q5, .null, .int 0, .int 0, .null, .null, .int 0, .int 0])), (q1, .inl (c1, 5, .inl (fun _ => nI 0))), (q2, .inl (c2, 5, .inl (fun _ => nI 0))), (q3, .inl (c3, 5, .inl (fun _ => nI 0))), (q4, .inl (c4, 5, .inl (fun _ => nI 0))), (q5, .inl (c5, 5, .inl (fun _ => nI 0))), (q6, .inl (c6, 5, .inl (fun _ => nI 0)))] := hD
  have hK : va_K D classes [(c1, .byte), (c2, .byte), (c3, .byte), (c4, .byte), (c5, .byte), (c6, .byte)] s := hK
  refine W.widen (k := 6) (n := 30) (Nat.le_of_ble_eq_true rfl) (Nat.le_of_ble_eq_true rfl) ?_
  refine va_putF (D := D) (ci := 0) (v := .ref q6) (ty := .array .byte) (C := R_X) (T := F_X) (N := 15) hx hb hts i_X t_X t_X_ok n_X hown hK hP hD hS 0 rfl rfl 8 (by decide) (hts _ fl_X_8) (fun _ h9 => h9) rfl hin rfl (by decide +kernel) rfl rfl (Nat.le_of_ble_eq_true rfl) d_X_init_43 (fun H locs hP hD hS => ?_)
  have hP : va_P D classes [(h0, .inr (0, [.int 0, .int 0, .int 0, .ref q1, .ref q2, .ref q3, .ref q4, .ref q5, .ref q6, .int 0, .int 0, .null, .null, .int 0, .int 0])), (q1, .inl (c1, 5, .inl (fun _ => nI 0))), (q2, .inl (c2, 5, .inl (fun _ => nI 0))), (q3, .inl (c3, 5, .inl (fun _ => nI 0))), (q4, .inl (c4, 5, .inl (fun _ => nI 0))), (q5, .inl (c5, 5, .inl (fun _ => nI 0))), (q6, .inl (c6, 5, .inl (fun _ => nI 0)))] H := hP
  have hD : va_D A [(h0, .inr (0, [.int 0, .int 0, .int 0, .ref q1, .ref q2, .ref q3, .ref q4, .ref q5, .ref q6, .int 0, .int 0, .null, .null, .int 0, .int 0])), (q1, .inl (c1, 5, .inl (fun _ => nI 0))), (q2, .inl (c2, 5, .inl (fun _ => nI 0))), (q3, .inl (c3, 5, .inl (fun _ => nI 0))), (q4, .inl (c4, 5, .inl (fun _ => nI 0))), (q5, .inl (c5, 5, .inl (fun _ => nI 0))), (q6, .inl (c6, 5, .inl (fun _ => nI 0)))] := hD
  refine lv_aload_n hx hb d_X_init_46 rfl (lv_at hl 0 rfl) ?_
  refine lv_iconst (v := (-1)) hx hb d_X_init_47 (by decide) ?_
  refine va_put (D := D) (ci := 0) (v := .int (-1)) (ty := .int) (C := R_X) (T := F_X) (N := 15) hx hb hts i_X t_X t_X_ok n_X hown hK hP hD hS 0 rfl rfl 9 (by decide) (hts _ fl_X_9) (fun _ h9 => h9) rfl (by decide +kernel) rfl rfl (Nat.le_of_ble_eq_true rfl) d_X_init_48 (fun H locs hP hD hS => ?_)
  have hP : va_P D classes [(h0, .inr (0, [.int 0, .int 0, .int 0, .ref q1, .ref q2, .ref q3, .ref q4, .ref q5, .ref q6, .int (-1), .int 0, .null, .null, .int 0, .int 0])), (q1, .inl (c1, 5, .inl (fun _ => nI 0))), (q2, .inl (c2, 5, .inl (fun _ => nI 0))), (q3, .inl (c3, 5, .inl (fun _ => nI 0))), (q4, .inl (c4, 5, .inl (fun _ => nI 0))), (q5, .inl (c5, 5, .inl (fun _ => nI 0))), (q6, .inl (c6, 5, .inl (fun _ => nI 0)))] H := hP
  have hD : va_D A [(h0, .inr (0, [.int 0, .int 0, .int 0, .ref q1, .ref q2, .ref q3, .ref q4, .ref q5, .ref q6, .int (-1), .int 0, .null, .null, .int 0, .int 0])), (q1, .inl (c1, 5, .inl (fun _ => nI 0))), (q2, .inl (c2, 5, .inl (fun _ => nI 0))), (q3, .inl (c3, 5, .inl (fun _ => nI 0))), (q4, .inl (c4, 5, .inl (fun _ => nI 0))), (q5, .inl (c5, 5, .inl (fun _ => nI 0))), (q6, .inl (c6, 5, .inl (fun _ => nI 0)))] := hD
  refine lv_aload_n hx hb d_X_init_51 rfl (lv_at hl 0 rfl) ?_
  refine lv_iconst (v := 5) hx hb d_X_init_52 (by decide) ?_
  refine va_newa (atype := .byte) (ty := .byte) (a0 := (5, .inl (fun _ => nI 0))) (N' := 5) hx hb (hts _ in_arr_byte) rfl hK hP hD hS hA (cell0 5 .byte rfl) (by decide) (by decide) (by decide) (Nat.le_of_ble_eq_true rfl) (Nat.le_of_ble_eq_true rfl) d_X_init_53 (fun q7 c7 H hK hP hD hS => ?_)
  have hP : va_P D classes [(h0, .inr (0, [.int 0, .int 0, .int 0, .ref q1, .ref q2, .ref q3, .ref q4, .ref q5, .ref q6, .int (-1), .int 0, .null, .null, .int 0, .int 0])), (q1, .inl (c1, 5, .inl (fun _ => nI 0))), (q2, .inl (c2, 5, .inl (fun _ => nI 0))), (q3, .inl (c3, 5, .inl (fun _ => nI 0))), (q4, .inl (c4, 5, .inl (fun _ => nI 0))), (q5, .inl (c5, 5, .inl (fun _ => nI 0))), (q6, .inl (c6, 5, .inl (fun _ => nI 0))), (q7, .inl (c7, 5, .inl (fun _ => nI 0)))] H := hP
  have hD : va_D A [(h0, .inr (0, [.int 0, .int 0, .int 0, .ref q1, .ref q2, .ref q3, .ref q4, .ref q5, .ref q6, .int (-1), .int 0, .null, .null, .int 0, .int 0])), (q1, .inl (c1, 5, .inl (fun _ => nI 0))), (q2, .inl (c2, 5, .inl (fun _ => nI 0))), (q3, .inl (c3, 5, .inl (fun _ => nI 0))), (q4, .inl (c4, 5, .inl (fun _ => nI 0))), (q5, .inl (c5, 5, .inl (fun _ => nI 0))), (q6, .inl (c6, 5, .inl (fun _ => nI 0))), (q7, .inl (c7, 5, .inl (fun _ => nI 0)))] := hD
  have hK : va_K D classes [(c1, .byte), (c2, .byte), (c3, .byte), (c4, .byte), (c5, .byte), (c6, .byte), (c7, .byte)] s := hK
  refine W.widen (k := 7) (n := 35) (Nat.le_of_ble_eq_true rfl) (Nat.le_of_ble_eq_true rfl) ?_
  refine va_putF (D := D) (ci := 0) (v := .ref q7) (ty := .array .byte) (C := R_X) (T := F_X) (N := 15) hx hb hts i_X t_X t_X_ok n_X hown hK hP hD hS 0 rfl rfl 11 (by decide) (hts _ fl_X_11) (fun _ h9 => h9) rfl hin rfl (by decide +kernel) rfl rfl (Nat.le_of_ble_eq_true rfl) d_X_init_55 (fun H locs hP hD hS => ?_)
  have hP : va_P D classes [(h0, .inr (0, [.int 0, .int 0, .int 0, .ref q1, .ref q2, .ref q3, .ref q4, .ref q5, .ref q6, .int (-1), .int 0, .ref q7, .null, .int 0, .int 0])), (q1, .inl (c1, 5, .inl (fun _ => nI 0))), (q2, .inl (c2, 5, .inl (fun _ => nI 0))), (q3, .inl (c3, 5, .inl (fun _ => nI 0))), (q4, .inl (c4, 5, .inl (fun _ => nI 0))), (q5, .inl (c5, 5, .inl (fun _ => nI 0))), (q6, .inl (c6, 5, .inl (fun _ => nI 0))), (q7, .inl (c7, 5, .inl (fun _ => nI 0)))] H := hP
  have hD : va_D A [(h0, .inr (0, [.int 0, .int 0, .int 0, .ref q1, .ref q2, .ref q3, .ref q4, .ref q5, .ref q6, .int (-1), .int 0, .ref q7, .null, .int 0, .int 0])), (q1, .inl (c1, 5, .inl (fun _ => nI 0))), (q2, .inl (c2, 5, .inl (fun _ => nI 0))), (q3, .inl (c3, 5, .inl (fun _ => nI 0))), (q4, .inl (c4, 5, .inl (fun _ => nI 0))), (q5, .inl (c5, 5, .inl (fun _ => nI 0))), (q6, .inl (c6, 5, .inl (fun _ => nI 0))), (q7, .inl (c7, 5, .inl (fun _ => nI 0)))] := hD
  refine lv_aload_n hx hb d_X_init_58 rfl (lv_at hl 0 rfl) ?_
  refine lv_bipush (v := 16) hx hb d_X_init_59 (by decide) ?_
  refine va_newa (atype := .byte) (ty := .byte) (a0 := (16, .inl (fun _ => nI 0))) (N' := 16) hx hb (hts _ in_arr_byte) rfl hK hP hD hS hA (cell0 16 .byte rfl) (by decide) (by decide) (by decide) (Nat.le_of_ble_eq_true rfl) (Nat.le_of_ble_eq_true rfl) d_X_init_61 (fun q8 c8 H hK hP hD hS => ?_)
  have hP : va_P D classes [(h0, .inr (0, [.int 0, .int 0, .int 0, .ref q1, .ref q2, .ref q3, .ref q4, .ref q5, .ref q6, .int (-1), .int 0, .ref q7, .null, .int 0, .int 0])), (q1, .inl (c1, 5, .inl (fun _ => nI 0))), (q2, .inl (c2, 5, .inl (fun _ => nI 0))), (q3, .inl (c3, 5, .inl (fun _ => nI 0))), (q4, .inl (c4, 5, .inl (fun _ => nI 0))), (q5, .inl (c5, 5, .inl (fun _ => nI 0))), (q6, .inl (c6, 5, .inl (fun _ => nI 0))), (q7, .inl (c7, 5, .inl (fun _ => nI 0))), (q8, .inl (c8, 16, .inl (fun _ => nI 0)))] H := hP
  have hD : va_D A [(h0, .inr (0, [.int 0, .int 0, .int 0, .ref q1, .ref q2, .ref q3, .ref q4, .ref q5, .ref q6, .int (-1), .int 0, .ref q7, .null, .int 0, .int 0])), (q1, .inl (c1, 5, .inl (fun _ => nI 0))), (q2, .inl (c2, 5, .inl (fun _ => nI 0))), (q3, .inl (c3, 5, .inl (fun _ => nI 0))), (q4, .inl (c4, 5, .inl (fun _ => nI 0))), (q5, .inl (c5, 5, .inl (fun _ => nI 0))), (q6, .inl (c6, 5, .inl (fun _ => nI 0))), (q7, .inl (c7, 5, .inl (fun _ => nI 0))), (q8, .inl (c8, 16, .inl (fun _ => nI 0)))] := hD
  have hK : va_K D classes [(c1, .byte), (c2, .byte), (c3, .byte), (c4, .byte), (c5, .byte), (c6, .byte), (c7, .byte), (c8, .byte)] s := hK
  refine W.widen (k := 8) (n := 51) (Nat.le_of_ble_eq_true rfl) (Nat.le_of_ble_eq_true rfl) ?_
  refine va_putF (D := D) (ci := 0) (v := .ref q8) (ty := .array .byte) (C := R_X) (T := F_X) (N := 15) hx hb hts i_X t_X t_X_ok n_X hown hK hP hD hS 0 rfl rfl 12 (by decide) (hts _ fl_X_12) (fun _ h9 => h9) rfl hin rfl (by decide +kernel) rfl rfl (Nat.le_of_ble_eq_true rfl) d_X_init_63 (fun H locs hP hD hS => ?_)
  have hP : va_P D classes [(h0, .inr (0, [.int 0, .int 0, .int 0, .ref q1, .ref q2, .ref q3, .ref q4, .ref q5, .ref q6, .int (-1), .int 0, .ref q7, .ref q8, .int 0, .int 0])), (q1, .inl (c1, 5, .inl (fun _ => nI 0))), (q2, .inl (c2, 5, .inl (fun _ => nI 0))), (q3, .inl (c3, 5, .inl (fun _ => nI 0))), (q4, .inl (c4, 5, .inl (fun _ => nI 0))), (q5, .inl (c5, 5, .inl (fun _ => nI 0))), (q6, .inl (c6, 5, .inl (fun _ => nI 0))), (q7, .inl (c7, 5, .inl (fun _ => nI 0))), (q8, .inl (c8, 16, .inl (fun _ => nI 0)))] H := hP
  have hD : va_D A [(h0, .inr (0, [.int 0, .int 0, .int 0, .ref q1, .ref q2, .ref q3, .ref q4, .ref q5, .ref q6, .int (-1), .int 0, .ref q7, .ref q8, .int 0, .int 0])), (q1, .inl (c1, 5, .inl (fun _ => nI 0))), (q2, .inl (c2, 5, .inl (fun _ => nI 0))), (q3, .inl (c3, 5, .inl (fun _ => nI 0))), (q4, .inl (c4, 5, .inl (fun _ => nI 0))), (q5, .inl (c5, 5, .inl (fun _ => nI 0))), (q6, .inl (c6, 5, .inl (fun _ => nI 0))), (q7, .inl (c7, 5, .inl (fun _ => nI 0))), (q8, .inl (c8, 16, .inl (fun _ => nI 0)))] := hD
  have k86 : W p l e (headSpec (Cond.code y_X_init b_X_init 3 none :: wk_tbl) { frames := 1, cells := 8, slots := 51, locals := 12 }).room s m ([.ref h0, .int x, .int y] : List Value).toArray below meth c H locs 8 51 (MQ below (va_Qv (fun u : (Nat → Nat) × (Nat → ClassId) => u.1 0 = h0) (fun u t => va_P D classes (wX u.1 u.2 (clC x, clK y, 0, (-1), 0, 0, 0, fun _ _ => 0)) t.heap ∧ va_K D classes (tysX u.2) t ∧ va_D A (wX u.1 u.2 (clC x, clK y, 0, (-1), 0, 0, 0, fun _ _ => 0))) A) ([.ref h0, .int x, .int y] : List Value).toArray s 8 51 A) (F0 m 86 ls [.int (nI (clC x)), .ref h0]) := by
    refine va_putF (D := D) (ci := 0) (v := .int (nI (clC x))) (ty := .int) (C := R_X) (T := F_X) (N := 15) hx hb hts i_X t_X t_X_ok n_X hown hK hP hD hS 0 rfl rfl 0 (by decide) (hts _ fl_X_0) (fun _ h9 => h9) rfl hin rfl (by decide +kernel) rfl rfl (Nat.le_of_ble_eq_true rfl) d_X_init_86 (fun H locs hP hD hS => ?_)
    have hP : va_P D classes [(h0, .inr (0, [.int (nI (clC x)), .int 0, .int 0, .ref q1, .ref q2, .ref q3, .ref q4, .ref q5, .ref q6, .int (-1), .int 0, .ref q7, .ref q8, .int 0, .int 0])), (q1, .inl (c1, 5, .inl (fun _ => nI 0))), (q2, .inl (c2, 5, .inl (fun _ => nI 0))), (q3, .inl (c3, 5, .inl (fun _ => nI 0))), (q4, .inl (c4, 5, .inl (fun _ => nI 0))), (q5, .inl (c5, 5, .inl (fun _ => nI 0))), (q6, .inl (c6, 5, .inl (fun _ => nI 0))), (q7, .inl (c7, 5, .inl (fun _ => nI 0))), (q8, .inl (c8, 16, .inl (fun _ => nI 0)))] H := hP
    have hD : va_D A [(h0, .inr (0, [.int (nI (clC x)), .int 0, .int 0, .ref q1, .ref q2, .ref q3, .ref q4, .ref q5, .ref q6, .int (-1), .int 0, .ref q7, .ref q8, .int 0, .int 0])), (q1, .inl (c1, 5, .inl (fun _ => nI 0))), (q2, .inl (c2, 5, .inl (fun _ => nI 0))), (q3, .inl (c3, 5, .inl (fun _ => nI 0))), (q4, .inl (c4, 5, .inl (fun _ => nI 0))), (q5, .inl (c5, 5, .inl (fun _ => nI 0))), (q6, .inl (c6, 5, .inl (fun _ => nI 0))), (q7, .inl (c7, 5, .inl (fun _ => nI 0))), (q8, .inl (c8, 16, .inl (fun _ => nI 0)))] := hD
    refine lv_aload_n hx hb d_X_init_89 rfl (lv_at hl 0 rfl) ?_
    have k117 : W p l e (headSpec (Cond.code y_X_init b_X_init 3 none :: wk_tbl) { frames := 1, cells := 8, slots := 51, locals := 12 }).room s m ([.ref h0, .int x, .int y] : List Value).toArray below meth c H locs 8 51 (MQ below (va_Qv (fun u : (Nat → Nat) × (Nat → ClassId) => u.1 0 = h0) (fun u t => va_P D classes (wX u.1 u.2 (clC x, clK y, 0, (-1), 0, 0, 0, fun _ _ => 0)) t.heap ∧ va_K D classes (tysX u.2) t ∧ va_D A (wX u.1 u.2 (clC x, clK y, 0, (-1), 0, 0, 0, fun _ _ => 0))) A) ([.ref h0, .int x, .int y] : List Value).toArray s 8 51 A) (F0 m 117 ls [.int (iI (clK y)), .ref h0]) := by
      refine va_putF (D := D) (ci := 0) (v := .int (iI (clK y))) (ty := .int) (C := R_X) (T := F_X) (N := 15) hx hb hts i_X t_X t_X_ok n_X hown hK hP hD hS 0 rfl rfl 1 (by decide) (hts _ fl_X_1) (fun _ h9 => h9) rfl hin rfl (by decide +kernel) rfl rfl (Nat.le_of_ble_eq_true rfl) d_X_init_117 (fun H locs hP hD hS => ?_)
      have hP : va_P D classes [(h0, .inr (0, [.int (nI (clC x)), .int (iI (clK y)), .int 0, .ref q1, .ref q2, .ref q3, .ref q4, .ref q5, .ref q6, .int (-1), .int 0, .ref q7, .ref q8, .int 0, .int 0])), (q1, .inl (c1, 5, .inl (fun _ => nI 0))), (q2, .inl (c2, 5, .inl (fun _ => nI 0))), (q3, .inl (c3, 5, .inl (fun _ => nI 0))), (q4, .inl (c4, 5, .inl (fun _ => nI 0))), (q5, .inl (c5, 5, .inl (fun _ => nI 0))), (q6, .inl (c6, 5, .inl (fun _ => nI 0))), (q7, .inl (c7, 5, .inl (fun _ => nI 0))), (q8, .inl (c8, 16, .inl (fun _ => nI 0)))] H := hP
      have hD : va_D A [(h0, .inr (0, [.int (nI (clC x)), .int (iI (clK y)), .int 0, .ref q1, .ref q2, .ref q3, .ref q4, .ref q5, .ref q6, .int (-1), .int 0, .ref q7, .ref q8, .int 0, .int 0])), (q1, .inl (c1, 5, .inl (fun _ => nI 0))), (q2, .inl (c2, 5, .inl (fun _ => nI 0))), (q3, .inl (c3, 5, .inl (fun _ => nI 0))), (q4, .inl (c4, 5, .inl (fun _ => nI 0))), (q5, .inl (c5, 5, .inl (fun _ => nI 0))), (q6, .inl (c6, 5, .inl (fun _ => nI 0))), (q7, .inl (c7, 5, .inl (fun _ => nI 0))), (q8, .inl (c8, 16, .inl (fun _ => nI 0)))] := hD
      have hP9 : va_P D classes (wX (adr h0 q1 q2 q3 q4 q5 q6 q7 q8) (cla c1 c2 c3 c4 c5 c6 c7 c8) (clC x, clK y, 0, (-1), 0, 0, 0, fun _ _ => 0)) H := hP
      have hD9 : va_D A (wX (adr h0 q1 q2 q3 q4 q5 q6 q7 q8) (cla c1 c2 c3 c4 c5 c6 c7 c8) (clC x, clK y, 0, (-1), 0, 0, 0, fun _ _ => 0)) := hD
      have hK9 : va_K D classes (tysX (cla c1 c2 c3 c4 c5 c6 c7 c8)) s := hK
      exact W.vret hx hb hr (fun t ht hW => ⟨⟨(adr h0 q1 q2 q3 q4 q5 q6 q7 q8, cla c1 c2 c3 c4 c5 c6 c7 c8), rfl, rfl, by rw [ht]; exact hP9, va_K.moved hW.alike hK9, hD9⟩, hS.F ht⟩) hS.2.2 d_X_init_120
    refine lv_iload_n hx hb d_X_init_90 rfl (lv_at hl 2 rfl) ?_
    refine lv_sipush (v := -200) hx hb d_X_init_91 (by decide) ?_
    refine lv_icmp_ge (tgt := 103) hx hb d_X_init_94 (by decide) (fun c1 => ?_) (fun c1 => ?_)
    · refine lv_iload_n hx hb d_X_init_103 rfl (lv_at hl 2 rfl) ?_
      refine lv_sipush (v := 1000) hx hb d_X_init_104 (by decide) ?_
      refine lv_icmp_le (tgt := 116) hx hb d_X_init_107 (by decide) (fun c2 => ?_) (fun c2 => ?_)
      · refine lv_iload_n hx hb d_X_init_116 rfl (lv_at hl 2 rfl) ?_
        rw [← clK_y c1 c2] at k117
        exact k117
      · refine lv_sipush (v := 1000) hx hb d_X_init_110 (by decide) ?_
        refine lv_goto (tgt := 117) hx hb d_X_init_113 (by decide) ?_
        rw [← clK_2 c1 c2] at k117
        exact k117
    · refine lv_sipush (v := -200) hx hb d_X_init_97 (by decide) ?_
      refine lv_goto (tgt := 117) hx hb d_X_init_100 (by decide) ?_
      rw [← clK_1 c1] at k117
      exact k117
  refine lv_aload_n hx hb d_X_init_66 rfl (lv_at hl 0 rfl) ?_
  refine lv_iload_n hx hb d_X_init_67 rfl (lv_at hl 1 rfl) ?_
  refine lv_iconst (v := 1) hx hb d_X_init_68 (by decide) ?_
  refine lv_icmp_ge (tgt := 76) hx hb d_X_init_69 (by decide) (fun c1 => ?_) (fun c1 => ?_)
  · refine lv_iload_n hx hb d_X_init_76 rfl (lv_at hl 1 rfl) ?_
    refine lv_iconst (v := 5) hx hb d_X_init_77 (by decide) ?_
    refine lv_icmp_le (tgt := 85) hx hb d_X_init_78 (by decide) (fun c2 => ?_) (fun c2 => ?_)
    · refine lv_iload_n hx hb d_X_init_85 rfl (lv_at hl 1 rfl) ?_
      rw [← clC_x c1 c2] at k86
      exact k86
    · refine lv_iconst (v := 5) hx hb d_X_init_81 (by decide) ?_
      refine lv_goto (tgt := 86) hx hb d_X_init_82 (by decide) ?_
      rw [← clC_5 c1 c2] at k86
      exact k86
  · refine lv_iconst (v := 1) hx hb d_X_init_72 (by decide) ?_
    refine lv_goto (tgt := 86) hx hb d_X_init_73 (by decide) ?_
    rw [← clC_1 c1] at k86
    exact k86
set_option maxHeartbeats 4000000 in
set_option maxRecDepth 100000 in
/-- the constructor of M -/
theorem c_M_init (l : Launch) (D : va_G) (h0 sz : Nat) (x y : Int32) : Met l y_M_init (Cond.code y_M_init b_M_init 3 none :: wk_tbl) ({ frames := 1, cells := 8, slots := 1059, locals := 12 }) (va_Pc [.ref h0, .int x, .int y] (fun U => U.heap.size = sz ∧ va_P D classes [(h0, .inr (1, fs0M))] U.heap ∧ va_K D classes [] U ∧ va_D (fun _ => True) [(h0, .inr (1, fs0M))])) (va_Qv (fun u : (Nat → Nat) × (Nat → ClassId) => u.1 0 = h0) (fun u t => va_P D classes (wM u.1 u.2 (clC x, clK y, 0, 0, (-1), 0, (fun _ _ => 0), fun _ => 0)) t.heap ∧ va_K D classes (tysM u.2) t ∧ va_D (va_A [(h0, .inr (1, fs0M))] sz) (wM u.1 u.2 (clC x, clK y, 0, 0, (-1), 0, (fun _ _ => 0), fun _ => 0))) (va_A [(h0, .inr (1, fs0M))] sz)) 8 1059 (va_A [(h0, .inr (1, fs0M))] sz) := by
  refine Met.ofW (cc := b_M_init) (maxL := 3) (ret := none) (by decide) rfl ?_
  intro p e s m args below meth c s₁ B hml hv
  obtain ⟨rfl, hsz, hP, hK, hD0⟩ := hv
  have hx := B.exec
  have hb := B.bytes
  have hr := B.returns
  have hts0 := atoms_spec (ws := Cond.code y_M_init b_M_init 3 none :: wk_tbl) B.pre
  have hts : ∀ w ∈ wk_tbl, w.before ([.ref h0, .int x, .int y] : List Value).toArray s = true := fun w h => hts0 w (List.mem_cons_of_mem _ h)
  have hown : s.vm.findClass R_M = some m.cls := findClass_of_methodNamed B.named
  have hlocks := B.notSynchronized
  have hin : meth.name = "<init>" := (name_of_methodNamed B.named B.method).1
  subst hsz
  have hD := hD0.self (sz := s.heap.size)
  generalize hAe : va_A [(h0, .inr (1, fs0M))] s.heap.size = A at hD ⊢
  have hA : ∀ q : Nat, s.heap.size ≤ q → A q := fun q h => by rw [← hAe]; exact Or.inr h
  have hS : va_S A s.heap s.heap [] := va_S.rf
  have hP : va_P D classes [(h0, .inr (1, [.int 0, .int 0, .null, .null, .null, .null, .null, .null, .null, .null, .int 0, .int 0, .int 0, .int 0]))] s.heap := hP
  have hD : va_D A [(h0, .inr (1, [.int 0, .int 0, .null, .null, .null, .null, .null, .null, .null, .null, .int 0, .int 0, .int 0, .int 0]))] := hD
  have hl := lv_entry ([.ref h0, .int x, .int y]) (n := 3) (Nat.le_of_ble_eq_true rfl)
  rw [lg_entry_eq]
  generalize (lg_sl ([.ref h0, .int x, .int y]) ++ List.replicate (3 - (lg_sl ([.ref h0, .int x, .int y])).length) Slot.unset).toArray = ls at hl ⊢
  have hl : lv_has ls 3 [(0, .ref h0), (1, .int x), (2, .int y)] := hl
  refine lv_aload_n hx hb d_M_init_0 rfl (lv_at hl 0 rfl) ?_
  refine W.objInit hx hb hown (hts _ in_oi_M) (hts _ in_oinst) (hts _ in_ocode) rfl (by rw [hml]; exact hl.1) rfl d_M_init_1 (Nat.le_of_ble_eq_true rfl) (Nat.le_of_ble_eq_true rfl) ?_
  refine W.eq (g2 := F0 m 4 ls []) rfl ?_
  refine lv_aload_n hx hb d_M_init_4 rfl (lv_at hl 0 rfl) ?_
  refine lv_iconst (v := 5) hx hb d_M_init_5 (by decide) ?_
  refine va_newa (atype := .boolean) (ty := .boolean) (a0 := (5, .inl (fun _ => nI 0))) (N' := 5) hx hb (hts _ in_arr_boolean) rfl hK hP hD hS hA (cell0 5 .boolean rfl) (by decide) (by decide) (by decide) (Nat.le_of_ble_eq_true rfl) (Nat.le_of_ble_eq_true rfl) d_M_init_6 (fun q1 c1 H hK hP hD hS => ?_)
  have hP : va_P D classes [(h0, .inr (1, [.int 0, .int 0, .null, .null, .null, .null, .null, .null, .null, .null, .int 0, .int 0, .int 0, .int 0])), (q1, .inl (c1, 5, .inl (fun _ => nI 0)))] H := hP
  have hD : va_D A [(h0, .inr (1, [.int 0, .int 0, .null, .null, .null, .null, .null, .null, .null, .null, .int 0, .int 0, .int 0, .int 0])), (q1, .inl (c1, 5, .inl (fun _ => nI 0)))] := hD
  have hK : va_K D classes [(c1, .boolean)] s := hK
  refine W.widen (k := 1) (n := 5) (Nat.le_of_ble_eq_true rfl) (Nat.le_of_ble_eq_true rfl) ?_
  refine va_put (D := D) (ci := 1) (v := .ref q1) (ty := .array .boolean) (C := R_M) (T := F_M) (N := 14) hx hb hts i_M t_M t_M_ok n_M hown hK hP hD hS 0 rfl rfl 2 (by decide) (hts _ fl_M_2) (fun _ h9 => h9) rfl (by decide +kernel) rfl rfl (Nat.le_of_ble_eq_true rfl) d_M_init_8 (fun H locs hP hD hS => ?_)
  have hP : va_P D classes [(h0, .inr (1, [.int 0, .int 0, .ref q1, .null, .null, .null, .null, .null, .null, .null, .int 0, .int 0, .int 0, .int 0])), (q1, .inl (c1, 5, .inl (fun _ => nI 0)))] H := hP
  have hD : va_D A [(h0, .inr (1, [.int 0, .int 0, .ref q1, .null, .null, .null, .null, .null, .null, .null, .int 0, .int 0, .int 0, .int 0])), (q1, .inl (c1, 5, .inl (fun _ => nI 0)))] := hD
  refine lv_aload_n hx hb d_M_init_11 rfl (lv_at hl 0 rfl) ?_
  refine lv_iconst (v := 5) hx hb d_M_init_12 (by decide) ?_
  refine va_newa (atype := .int) (ty := .int) (a0 := (5, .inl (fun _ => nI 0))) (N' := 5) hx hb (hts _ in_arr_int) rfl hK hP hD hS hA (cell0 5 .int rfl) (by decide) (by decide) (by decide) (Nat.le_of_ble_eq_true rfl) (Nat.le_of_ble_eq_true rfl) d_M_init_13 (fun q2 c2 H hK hP hD hS => ?_)
  have hP : va_P D classes [(h0, .inr (1, [.int 0, .int 0, .ref q1, .null, .null, .null, .null, .null, .null, .null, .int 0, .int 0, .int 0, .int 0])), (q1, .inl (c1, 5, .inl (fun _ => nI 0))), (q2, .inl (c2, 5, .inl (fun _ => nI 0)))] H := hP
  have hD : va_D A [(h0, .inr (1, [.int 0, .int 0, .ref q1, .null, .null, .null, .null, .null, .null, .null, .int 0, .int 0, .int 0, .int 0])), (q1, .inl (c1, 5, .inl (fun _ => nI 0))), (q2, .inl (c2, 5, .inl (fun _ => nI 0)))] := hD
  have hK : va_K D classes [(c1, .boolean), (c2, .int)] s := hK
  refine W.widen (k := 2) (n := 10) (Nat.le_of_ble_eq_true rfl) (Nat.le_of_ble_eq_true rfl) ?_
  refine va_put (D := D) (ci := 1) (v := .ref q2) (ty := .array .int) (C := R_M) (T := F_M) (N := 14) hx hb hts i_M t_M t_M_ok n_M hown hK hP hD hS 0 rfl rfl 3 (by decide) (hts _ fl_M_3) (fun _ h9 => h9) rfl (by decide +kernel) rfl rfl (Nat.le_of_ble_eq_true rfl) d_M_init_15 (fun H locs hP hD hS => ?_)
  have hP : va_P D classes [(h0, .inr (1, [.int 0, .int 0, .ref q1, .ref q2, .null, .null, .null, .null, .null, .null, .int 0, .int 0, .int 0, .int 0])), (q1, .inl (c1, 5, .inl (fun _ => nI 0))), (q2, .inl (c2, 5, .inl (fun _ => nI 0)))] H := hP
  have hD : va_D A [(h0, .inr (1, [.int 0, .int 0, .ref q1, .ref q2, .null, .null, .null, .null, .null, .null, .int 0, .int 0, .int 0, .int 0])), (q1, .inl (c1, 5, .inl (fun _ => nI 0))), (q2, .inl (c2, 5, .inl (fun _ => nI 0)))] := hD
  refine lv_aload_n hx hb d_M_init_18 rfl (lv_at hl 0 rfl) ?_
  refine lv_iconst (v := 5) hx hb d_M_init_19 (by decide) ?_
  refine va_newa (atype := .int) (ty := .int) (a0 := (5, .inl (fun _ => nI 0))) (N' := 5) hx hb (hts _ in_arr_int) rfl hK hP hD hS hA (cell0 5 .int rfl) (by decide) (by decide) (by decide) (Nat.le_of_ble_eq_true rfl) (Nat.le_of_ble_eq_true rfl) d_M_init_20 (fun q3 c3 H hK hP hD hS => ?_)
  have hP : va_P D classes [(h0, .inr (1, [.int 0, .int 0, .ref q1, .ref q2, .null, .null, .null, .null, .null, .null, .int 0, .int 0, .int 0, .int 0])), (q1, .inl (c1, 5, .inl (fun _ => nI 0))), (q2, .inl (c2, 5, .inl (fun _ => nI 0))), (q3, .inl (c3, 5, .inl (fun _ => nI 0)))] H := hP
  have hD : va_D A [(h0, .inr (1, [.int 0, .int 0, .ref q1, .ref q2, .null, .null, .null, .null, .null, .null, .int 0, .int 0, .int 0, .int 0])), (q1, .inl (c1, 5, .inl (fun _ => nI 0))), (q2, .inl (c2, 5, .inl (fun _ => nI 0))), (q3, .inl (c3, 5, .inl (fun _ => nI 0)))] := hD
  have hK : va_K D classes [(c1, .boolean), (c2, .int), (c3, .int)] s := hK
  refine W.widen (k := 3) (n := 15) (Nat.le_of_ble_eq_true rfl) (Nat.le_of_ble_eq_true rfl) ?_
  refine va_put (D := D) (ci := 1) (v := .ref q3) (ty := .array .int) (C := R_M) (T := F_M) (N := 14) hx hb hts i_M t_M t_M_ok n_M hown hK hP hD hS 0 rfl rfl 4 (by decide) (hts _ fl_M_4) (fun _ h9 => h9) rfl (by decide +kernel) rfl rfl (Nat.le_of_ble_eq_true rfl) d_M_init_22 (fun H locs hP hD hS => ?_)
  have hP : va_P D classes [(h0, .inr (1, [.int 0, .int 0, .ref q1, .ref q2, .ref q3, .null, .null, .null, .null, .null, .int 0, .int 0, .int 0, .int 0])), (q1, .inl (c1, 5, .inl (fun _ => nI 0))), (q2, .inl (c2, 5, .inl (fun _ => nI 0))), (q3, .inl (c3, 5, .inl (fun _ => nI 0)))] H := hP
  have hD : va_D A [(h0, .inr (1, [.int 0, .int 0, .ref q1, .ref q2, .ref q3, .null, .null, .null, .null, .null, .int 0, .int 0, .int 0, .int 0])), (q1, .inl (c1, 5, .inl (fun _ => nI 0))), (q2, .inl (c2, 5, .inl (fun _ => nI 0))), (q3, .inl (c3, 5, .inl (fun _ => nI 0)))] := hD
  refine lv_aload_n hx hb d_M_init_25 rfl (lv_at hl 0 rfl) ?_
  refine lv_iconst (v := 5) hx hb d_M_init_26 (by decide) ?_
  refine va_newa (atype := .int) (ty := .int) (a0 := (5, .inl (fun _ => nI 0))) (N' := 5) hx hb (hts _ in_arr_int) rfl hK hP hD hS hA (cell0 5 .int rfl) (by decide) (by decide) (by decide) (Nat.le_of_ble_eq_true rfl) (Nat.le_of_ble_eq_true rfl) d_M_init_27 (fun q4 c4 H hK hP hD hS => ?_)
  have hP : va_P D classes [(h0, .inr (1, [.int 0, .int 0, .ref q1, .ref q2, .ref q3, .null, .null, .null, .null, .null, .int 0, .int 0, .int 0, .int 0])), (q1, .inl (c1, 5, .inl (fun _ => nI 0))), (q2, .inl (c2, 5, .inl (fun _ => nI 0))), (q3, .inl (c3, 5, .inl (fun _ => nI 0))), (q4, .inl (c4, 5, .inl (fun _ => nI 0)))] H := hP
  have hD : va_D A [(h0, .inr (1, [.int 0, .int 0, .ref q1, .ref q2, .ref q3, .null, .null, .null, .null, .null, .int 0, .int 0, .int 0, .int 0])), (q1, .inl (c1, 5, .inl (fun _ => nI 0))), (q2, .inl (c2, 5, .inl (fun _ => nI 0))), (q3, .inl (c3, 5, .inl (fun _ => nI 0))), (q4, .inl (c4, 5, .inl (fun _ => nI 0)))] := hD
  have hK : va_K D classes [(c1, .boolean), (c2, .int), (c3, .int), (c4, .int)] s := hK
  refine W.widen (k := 4) (n := 20) (Nat.le_of_ble_eq_true rfl) (Nat.le_of_ble_eq_true rfl) ?_
  refine va_put (D := D) (ci := 1) (v := .ref q4) (ty := .array .int) (C := R_M) (T := F_M) (N := 14) hx hb hts i_M t_M t_M_ok n_M hown hK hP hD hS 0 rfl rfl 5 (by decide) (hts _ fl_M_5) (fun _ h9 => h9) rfl (by decide +kernel) rfl rfl (Nat.le_of_ble_eq_true rfl) d_M_init_29 (fun H locs hP hD hS => ?_)
  have hP : va_P D classes [(h0, .inr (1, [.int 0, .int 0, .ref q1, .ref q2, .ref q3, .ref q4, .null, .null, .null, .null, .int 0, .int 0, .int 0, .int 0])), (q1, .inl (c1, 5, .inl (fun _ => nI 0))), (q2, .inl (c2, 5, .inl (fun _ => nI 0))), (q3, .inl (c3, 5, .inl (fun _ => nI 0))), (q4, .inl (c4, 5, .inl (fun _ => nI 0)))] H := hP
  have hD : va_D A [(h0, .inr (1, [.int 0, .int 0, .ref q1, .ref q2, .ref q3, .ref q4, .null, .null, .null, .null, .int 0, .int 0, .int 0, .int 0])), (q1, .inl (c1, 5, .inl (fun _ => nI 0))), (q2, .inl (c2, 5, .inl (fun _ => nI 0))), (q3, .inl (c3, 5, .inl (fun _ => nI 0))), (q4, .inl (c4, 5, .inl (fun _ => nI 0)))] := hD
  refine lv_aload_n hx hb d_M_init_32 rfl (lv_at hl 0 rfl) ?_
  refine lv_iconst (v := 5) hx hb d_M_init_33 (by decide) ?_
  refine va_newa (atype := .int) (ty := .int) (a0 := (5, .inl (fun _ => nI 0))) (N' := 5) hx hb (hts _ in_arr_int) rfl hK hP hD hS hA (cell0 5 .int rfl) (by decide) (by decide) (by decide) (Nat.le_of_ble_eq_true rfl) (Nat.le_of_ble_eq_true rfl) d_M_init_34 (fun q5 c5 H hK hP hD hS => ?_)
  have hP : va_P D classes [(h0, .inr (1, [.int 0, .int 0, .ref q1, .ref q2, .ref q3, .ref q4, .null, .null, .null, .null, .int 0, .int 0, .int 0, .int 0])), (q1, .inl (c1, 5, .inl (fun _ => nI 0))), (q2, .inl (c2, 5, .inl (fun _ => nI 0))), (q3, .inl (c3, 5, .inl (fun _ => nI 0))), (q4, .inl (c4, 5, .inl (fun _ => nI 0))), (q5, .inl (c5, 5, .inl (fun _ => nI 0)))] H := hP
  have hD : va_D A [(h0, .inr (1, [.int 0, .int 0, .ref q1, .ref q2, .ref q3, .ref q4, .null, .null, .null, .null, .int 0, .int 0, .int 0, .int 0])), (q1, .inl (c1, 5, .inl (fun _ => nI 0))), (q2, .inl (c2, 5, .inl (fun _ => nI 0))), (q3, .inl (c3, 5, .inl (fun _ => nI 0))), (q4, .inl (c4, 5, .inl (fun _ => nI 0))), (q5, .inl (c5, 5, .inl (fun _ => nI 0)))] := hD
  have hK : va_K D classes [(c1, .boolean), (c2, .int), (c3, .int), (c4, .int), (c5, .int)] s := hK
  refine W.widen (k := 5) (n := 25) (Nat.le_of_ble_eq_true rfl) (Nat.le_of_ble_eq_true rfl) ?_
  refine va_put (D := D) (ci := 1) (v := .ref q5) (ty := .array .int) (C := R_M) (T := F_M) (N := 14) hx hb hts i_M t_M t_M_ok n_M hown hK hP hD hS 0 rfl rfl 6 (by decide) (hts _ fl_M_6) (fun _ h9 => h9) rfl (by decide +kernel) rfl rfl (Nat.le_of_ble_eq_true rfl) d_M_init_36 (fun H locs hP hD hS => ?_)
  have hP : va_P D classes [(h0, .inr (1, [.int 0, .int 0, .ref q1, .ref q2, .ref q3, .ref q4, .ref q5, .null, .null, .null, .int 0, .int 0, .int 0, .int 0])), (q1, .inl (c1, 5, .inl (fun _ => nI 0))), (q2, .inl (c2, 5, .inl (fun _ => nI 0))), (q3, .inl (c3, 5, .inl (fun _ => nI 0))), (q4, .inl (c4, 5, .inl (fun _ => nI 0))), (q5, .inl (c5, 5, .inl (fun _ => nI 0)))] H := hP
  have hD : va_D A [(h0, .inr (1, [.int 0, .int 0, .ref q1, .ref q2, .ref q3, .ref q4, .ref q5, .null, .null, .null, .int 0, .int 0, .int 0, .int 0])), (q1, .inl (c1, 5, .inl (fun _ => nI 0))), (q2, .inl (c2, 5, .inl (fun _ => nI 0))), (q3, .inl (c3, 5, .inl (fun _ => nI 0))), (q4, .inl (c4, 5, .inl (fun _ => nI 0))), (q5, .inl (c5, 5, .inl (fun _ => nI 0)))] := hD
  refine lv_aload_n hx hb d_M_init_39 rfl (lv_at hl 0 rfl) ?_
  refine lv_iconst (v := 5) hx hb d_M_init_40 (by decide) ?_
  refine va_newa (atype := .int) (ty := .int) (a0 := (5, .inl (fun _ => nI 0))) (N' := 5) hx hb (hts _ in_arr_int) rfl hK hP hD hS hA (cell0 5 .int rfl) (by decide) (by decide) (by decide) (Nat.le_of_ble_eq_true rfl) (Nat.le_of_ble_eq_true rfl) d_M_init_41 (fun q6 c6 H hK hP hD hS => ?_)
  have hP : va_P D classes [(h0, .inr (1, [.int 0, .int 0, .ref q1, .ref q2, .ref q3, .ref q4, .ref q5, .null, .null, .null, .int 0, .int 0, .int 0, .int 0])), (q1, .inl (c1, 5, .inl (fun _ => nI 0))), (q2, .inl (c2, 5, .inl (fun _ => nI 0))), (q3, .inl (c3, 5, .inl (fun _ => nI 0))), (q4, .inl (c4, 5, .inl (fun _ => nI 0))), (q5, .inl (c5, 5, .inl (fun _ => nI 0))), (q6, .inl (c6, 5, .inl (fun _ => nI 0)))] H := hP
  have hD : va_D A [(h0, .inr (1, [.int 0, .int 0, .ref q1, .ref q2, .ref q3, .ref q4, .ref q5, .null, .null, .null, .int 0, .int 0, .int 0, .int 0])), (q1, .inl (c1, 5, .inl (fun _ => nI 0))), (q2, .inl (c2, 5, .inl (fun _ => nI 0))), (q3, .inl (c3, 5, .inl (fun _ => nI 0))), (q4, .inl (c4, 5, .inl (fun _ => nI 0))), (q5, .inl (c5, 5, .inl (fun _ => nI 0))), (q6, .inl (c6, 5, .inl (fun _ => nI 0)))] := hD
  have hK : va_K D classes [(c1, .boolean), (c2, .int), (c3, .int), (c4, .int), (c5, .int), (c6, .int)] s := hK
  refine W.widen (k := 6) (n := 30) (Nat.le_of_ble_eq_true rfl) (Nat.le_of_ble_eq_true rfl) ?_
  refine va_put (D := D) (ci := 1) (v := .ref q6) (ty := .array .int) (C := R_M) (T := F_M) (N := 14) hx hb hts i_M t_M t_M_ok n_M hown hK hP hD hS 0 rfl rfl 7 (by decide) (hts _ fl_M_7) (fun _ h9 => h9) rfl (by decide +kernel) rfl rfl (Nat.le_of_ble_eq_true rfl) d_M_init_43 (fun H locs hP hD hS => ?_)
  have hP : va_P D classes [(h0, .inr (1, [.int 0, .int 0, .ref q1, .ref q2, .ref q3, .ref q4, .ref q5, .ref q6, .null, .null, .int 0, .int 0, .int 0, .int 0])), (q1, .inl (c1, 5, .inl (fun _ => nI 0))), (q2, .inl (c2, 5, .inl (fun _ => nI 0))), (q3, .inl (c3, 5, .inl (fun _ => nI 0))), (q4, .inl (c4, 5, .inl (fun _ => nI 0))), (q5, .inl (c5, 5, .inl (fun _ => nI 0))), (q6, .inl (c6, 5, .inl (fun _ => nI 0)))] H := hP
  have hD : va_D A [(h0, .inr (1, [.int 0, .int 0, .ref q1, .ref q2, .ref q3, .ref q4, .ref q5, .ref q6, .null, .null, .int 0, .int 0, .int 0, .int 0])), (q1, .inl (c1, 5, .inl (fun _ => nI 0))), (q2, .inl (c2, 5, .inl (fun _ => nI 0))), (q3, .inl (c3, 5, .inl (fun _ => nI 0))), (q4, .inl (c4, 5, .inl (fun _ => nI 0))), (q5, .inl (c5, 5, .inl (fun _ => nI 0))), (q6, .inl (c6, 5, .inl (fun _ => nI 0)))] := hD
  refine lv_aload_n hx hb d_M_init_46 rfl (lv_at hl 0 rfl) ?_
  refine lv_iconst (v := 5) hx hb d_M_init_47 (by decide) ?_
  refine va_newa (atype := .int) (ty := .int) (a0 := (5, .inl (fun _ => nI 0))) (N' := 5) hx hb (hts _ in_arr_int) rfl hK hP hD hS hA (cell0 5 .int rfl) (by decide) (by decide) (by decide) (Nat.le_of_ble_eq_true rfl) (Nat.le_of_ble_eq_true rfl) d_M_init_48 (fun q7 c7 H hK hP hD hS => ?_)
  have hP : va_P D classes [(h0, .inr (1, [.int 0, .int 0, .ref q1, .ref q2, .ref q3, .ref q4, .ref q5, .ref q6, .null, .null, .int 0, .int 0, .int 0, .int 0])), (q1, .inl (c1, 5, .inl (fun _ => nI 0))), (q2, .inl (c2, 5, .inl (fun _ => nI 0))), (q3, .inl (c3, 5, .inl (fun _ => nI 0))), (q4, .inl (c4, 5, .inl (fun _ => nI 0))), (q5, .inl (c5, 5, .inl (fun _ => nI 0))), (q6, .inl (c6, 5, .inl (fun _ => nI 0))), (q7, .inl (c7, 5, .inl (fun _ => nI 0)))] H := hP
  have hD : va_D A [(h0, .inr (1, [.int 0, .int 0, .ref q1, .ref q2, .ref q3, .ref q4, .ref q5, .ref q6, .null, .null, .int 0, .int 0, .int 0, .int 0])), (q1, .inl (c1, 5, .inl (fun _ => nI 0))), (q2, .inl (c2, 5, .inl (fun _ => nI 0))), (q3, .inl (c3, 5, .inl (fun _ => nI 0))), (q4, .inl (c4, 5, .inl (fun _ => nI 0))), (q5, .inl (c5, 5, .inl (fun _ => nI 0))), (q6, .inl (c6, 5, .inl (fun _ => nI 0))), (q7, .inl (c7, 5, .inl (fun _ => nI 0)))] := hD
  have hK : va_K D classes [(c1, .boolean), (c2, .int), (c3, .int), (c4, .int), (c5, .int), (c6, .int), (c7, .int)] s := hK
  refine W.widen (k := 7) (n := 35) (Nat.le_of_ble_eq_true rfl) (Nat.le_of_ble_eq_true rfl) ?_
  refine va_put (D := D) (ci := 1) (v := .ref q7) (ty := .array .int) (C := R_M) (T := F_M) (N := 14) hx hb hts i_M t_M t_M_ok n_M hown hK hP hD hS 0 rfl rfl 8 (by decide) (hts _ fl_M_8) (fun _ h9 => h9) rfl (by decide +kernel) rfl rfl (Nat.le_of_ble_eq_true rfl) d_M_init_50 (fun H locs hP hD hS => ?_)
  have hP : va_P D classes [(h0, .inr (1, [.int 0, .int 0, .ref q1, .ref q2, .ref q3, .ref q4, .ref q5, .ref q6, .ref q7, .null, .int 0, .int 0, .int 0, .int 0])), (q1, .inl (c1, 5, .inl (fun _ => nI 0))), (q2, .inl (c2, 5, .inl (fun _ => nI 0))), (q3, .inl (c3, 5, .inl (fun _ => nI 0))), (q4, .inl (c4, 5, .inl (fun _ => nI 0))), (q5, .inl (c5, 5, .inl (fun _ => nI 0))), (q6, .inl (c6, 5, .inl (fun _ => nI 0))), (q7, .inl (c7, 5, .inl (fun _ => nI 0)))] H := hP
  have hD : va_D A [(h0, .inr (1, [.int 0, .int 0, .ref q1, .ref q2, .ref q3, .ref q4, .ref q5, .ref q6, .ref q7, .null, .int 0, .int 0, .int 0, .int 0])), (q1, .inl (c1, 5, .inl (fun _ => nI 0))), (q2, .inl (c2, 5, .inl (fun _ => nI 0))), (q3, .inl (c3, 5, .inl (fun _ => nI 0))), (q4, .inl (c4, 5, .inl (fun _ => nI 0))), (q5, .inl (c5, 5, .inl (fun _ => nI 0))), (q6, .inl (c6, 5, .inl (fun _ => nI 0))), (q7, .inl (c7, 5, .inl (fun _ => nI 0)))] := hD
  refine lv_aload_n hx hb d_M_init_53 rfl (lv_at hl 0 rfl) ?_
  refine lv_sipush (v := 1024) hx hb d_M_init_54 (by decide) ?_
  refine va_newa (atype := .int) (ty := .int) (a0 := (1024, .inl (fun _ => iI 0))) (N' := 1024) hx hb (hts _ in_arr_int) rfl hK hP hD hS hA (cell0i 1024 .int rfl) (by decide) (by decide) (by decide) (Nat.le_of_ble_eq_true rfl) (Nat.le_of_ble_eq_true rfl) d_M_init_57 (fun q8 c8 H hK hP hD hS => ?_)
  have hP : va_P D classes [(h0, .inr (1, [.int 0, .int 0, .ref q1, .ref q2, .ref q3, .ref q4, .ref q5, .ref q6, .ref q7, .null, .int 0, .int 0, .int 0, .int 0])), (q1, .inl (c1, 5, .inl (fun _ => nI 0))), (q2, .inl (c2, 5, .inl (fun _ => nI 0))), (q3, .inl (c3, 5, .inl (fun _ => nI 0))), (q4, .inl (c4, 5, .inl (fun _ => nI 0))), (q5, .inl (c5, 5, .inl (fun _ => nI 0))), (q6, .inl (c6, 5, .inl (fun _ => nI 0))), (q7, .inl (c7, 5, .inl (fun _ => nI 0))), (q8, .inl (c8, 1024, .inl (fun _ => iI 0)))] H := hP
  have hD : va_D A [(h0, .inr (1, [.int 0, .int 0, .ref q1, .ref q2, .ref q3, .ref q4, .ref q5, .ref q6, .ref q7, .null, .int 0, .int 0, .int 0, .int 0])), (q1, .inl (c1, 5, .inl (fun _ => nI 0))), (q2, .inl (c2, 5, .inl (fun _ => nI 0))), (q3, .inl (c3, 5, .inl (fun _ => nI 0))), (q4, .inl (c4, 5, .inl (fun _ => nI 0))), (q5, .inl (c5, 5, .inl (fun _ => nI 0))), (q6, .inl (c6, 5, .inl (fun _ => nI 0))), (q7, .inl (c7, 5, .inl (fun _ => nI 0))), (q8, .inl (c8, 1024, .inl (fun _ => iI 0)))] := hD
  have hK : va_K D classes [(c1, .boolean), (c2, .int), (c3, .int), (c4, .int), (c5, .int), (c6, .int), (c7, .int), (c8, .int)] s := hK
  refine W.widen (k := 8) (n := 1059) (Nat.le_of_ble_eq_true rfl) (Nat.le_of_ble_eq_true rfl) ?_
  refine va_put (D := D) (ci := 1) (v := .ref q8) (ty := .array .int) (C := R_M) (T := F_M) (N := 14) hx hb hts i_M t_M t_M_ok n_M hown hK hP hD hS 0 rfl rfl 9 (by decide) (hts _ fl_M_9) (fun _ h9 => h9) rfl (by decide +kernel) rfl rfl (Nat.le_of_ble_eq_true rfl) d_M_init_59 (fun H locs hP hD hS => ?_)
  have hP : va_P D classes [(h0, .inr (1, [.int 0, .int 0, .ref q1, .ref q2, .ref q3, .ref q4, .ref q5, .ref q6, .ref q7, .ref q8, .int 0, .int 0, .int 0, .int 0])), (q1, .inl (c1, 5, .inl (fun _ => nI 0))), (q2, .inl (c2, 5, .inl (fun _ => nI 0))), (q3, .inl (c3, 5, .inl (fun _ => nI 0))), (q4, .inl (c4, 5, .inl (fun _ => nI 0))), (q5, .inl (c5, 5, .inl (fun _ => nI 0))), (q6, .inl (c6, 5, .inl (fun _ => nI 0))), (q7, .inl (c7, 5, .inl (fun _ => nI 0))), (q8, .inl (c8, 1024, .inl (fun _ => iI 0)))] H := hP
  have hD : va_D A [(h0, .inr (1, [.int 0, .int 0, .ref q1, .ref q2, .ref q3, .ref q4, .ref q5, .ref q6, .ref q7, .ref q8, .int 0, .int 0, .int 0, .int 0])), (q1, .inl (c1, 5, .inl (fun _ => nI 0))), (q2, .inl (c2, 5, .inl (fun _ => nI 0))), (q3, .inl (c3, 5, .inl (fun _ => nI 0))), (q4, .inl (c4, 5, .inl (fun _ => nI 0))), (q5, .inl (c5, 5, .inl (fun _ => nI 0))), (q6, .inl (c6, 5, .inl (fun _ => nI 0))), (q7, .inl (c7, 5, .inl (fun _ => nI 0))), (q8, .inl (c8, 1024, .inl (fun _ => iI 0)))] := hD
  refine lv_aload_n hx hb d_M_init_62 rfl (lv_at hl 0 rfl) ?_
  refine lv_iconst (v := (-1)) hx hb d_M_init_63 (by decide) ?_
  refine va_put (D := D) (ci := 1) (v := .int (-1)) (ty := .int) (C := R_M) (T := F_M) (N := 14) hx hb hts i_M t_M t_M_ok n_M hown hK hP hD hS 0 rfl rfl 12 (by decide) (hts _ fl_M_12) (fun _ h9 => h9) rfl (by decide +kernel) rfl rfl (Nat.le_of_ble_eq_true rfl) d_M_init_64 (fun H locs hP hD hS => ?_)
  have hP : va_P D classes [(h0, .inr (1, [.int 0, .int 0, .ref q1, .ref q2, .ref q3, .ref q4, .ref q5, .ref q6, .ref q7, .ref q8, .int 0, .int 0, .int (-1), .int 0])), (q1, .inl (c1, 5, .inl (fun _ => nI 0))), (q2, .inl (c2, 5, .inl (fun _ => nI 0))), (q3, .inl (c3, 5, .inl (fun _ => nI 0))), (q4, .inl (c4, 5, .inl (fun _ => nI 0))), (q5, .inl (c5, 5, .inl (fun _ => nI 0))), (q6, .inl (c6, 5, .inl (fun _ => nI 0))), (q7, .inl (c7, 5, .inl (fun _ => nI 0))), (q8, .inl (c8, 1024, .inl (fun _ => iI 0)))] H := hP
  have hD : va_D A [(h0, .inr (1, [.int 0, .int 0, .ref q1, .ref q2, .ref q3, .ref q4, .ref q5, .ref q6, .ref q7, .ref q8, .int 0, .int 0, .int (-1), .int 0])), (q1, .inl (c1, 5, .inl (fun _ => nI 0))), (q2, .inl (c2, 5, .inl (fun _ => nI 0))), (q3, .inl (c3, 5, .inl (fun _ => nI 0))), (q4, .inl (c4, 5, .inl (fun _ => nI 0))), (q5, .inl (c5, 5, .inl (fun _ => nI 0))), (q6, .inl (c6, 5, .inl (fun _ => nI 0))), (q7, .inl (c7, 5, .inl (fun _ => nI 0))), (q8, .inl (c8, 1024, .inl (fun _ => iI 0)))] := hD
  have k86 : W p l e (headSpec (Cond.code y_M_init b_M_init 3 none :: wk_tbl) { frames := 1, cells := 8, slots := 1059, locals := 12 }).room s m ([.ref h0, .int x, .int y] : List Value).toArray below meth c H locs 8 1059 (MQ below (va_Qv (fun u : (Nat → Nat) × (Nat → ClassId) => u.1 0 = h0) (fun u t => va_P D classes (wM u.1 u.2 (clC x, clK y, 0, 0, (-1), 0, (fun _ _ => 0), fun _ => 0)) t.heap ∧ va_K D classes (tysM u.2) t ∧ va_D A (wM u.1 u.2 (clC x, clK y, 0, 0, (-1), 0, (fun _ _ => 0), fun _ => 0))) A) ([.ref h0, .int x, .int y] : List Value).toArray s 8 1059 A) (F0 m 87 ls [.int (nI (clC x)), .ref h0]) := by
    refine va_put (D := D) (ci := 1) (v := .int (nI (clC x))) (ty := .int) (C := R_M) (T := F_M) (N := 14) hx hb hts i_M t_M t_M_ok n_M hown hK hP hD hS 0 rfl rfl 0 (by decide) (hts _ fl_M_0) (fun _ h9 => h9) rfl (by decide +kernel) rfl rfl (Nat.le_of_ble_eq_true rfl) d_M_init_87 (fun H locs hP hD hS => ?_)
    have hP : va_P D classes [(h0, .inr (1, [.int (nI (clC x)), .int 0, .ref q1, .ref q2, .ref q3, .ref q4, .ref q5, .ref q6, .ref q7, .ref q8, .int 0, .int 0, .int (-1), .int 0])), (q1, .inl (c1, 5, .inl (fun _ => nI 0))), (q2, .inl (c2, 5, .inl (fun _ => nI 0))), (q3, .inl (c3, 5, .inl (fun _ => nI 0))), (q4, .inl (c4, 5, .inl (fun _ => nI 0))), (q5, .inl (c5, 5, .inl (fun _ => nI 0))), (q6, .inl (c6, 5, .inl (fun _ => nI 0))), (q7, .inl (c7, 5, .inl (fun _ => nI 0))), (q8, .inl (c8, 1024, .inl (fun _ => iI 0)))] H := hP
    have hD : va_D A [(h0, .inr (1, [.int (nI (clC x)), .int 0, .ref q1, .ref q2, .ref q3, .ref q4, .ref q5, .ref q6, .ref q7, .ref q8, .int 0, .int 0, .int (-1), .int 0])), (q1, .inl (c1, 5, .inl (fun _ => nI 0))), (q2, .inl (c2, 5, .inl (fun _ => nI 0))), (q3, .inl (c3, 5, .inl (fun _ => nI 0))), (q4, .inl (c4, 5, .inl (fun _ => nI 0))), (q5, .inl (c5, 5, .inl (fun _ => nI 0))), (q6, .inl (c6, 5, .inl (fun _ => nI 0))), (q7, .inl (c7, 5, .inl (fun _ => nI 0))), (q8, .inl (c8, 1024, .inl (fun _ => iI 0)))] := hD
    refine lv_aload_n hx hb d_M_init_90 rfl (lv_at hl 0 rfl) ?_
    have k117 : W p l e (headSpec (Cond.code y_M_init b_M_init 3 none :: wk_tbl) { frames := 1, cells := 8, slots := 1059, locals := 12 }).room s m ([.ref h0, .int x, .int y] : List Value).toArray below meth c H locs 8 1059 (MQ below (va_Qv (fun u : (Nat → Nat) × (Nat → ClassId) => u.1 0 = h0) (fun u t => va_P D classes (wM u.1 u.2 (clC x, clK y, 0, 0, (-1), 0, (fun _ _ => 0), fun _ => 0)) t.heap ∧ va_K D classes (tysM u.2) t ∧ va_D A (wM u.1 u.2 (clC x, clK y, 0, 0, (-1), 0, (fun _ _ => 0), fun _ => 0))) A) ([.ref h0, .int x, .int y] : List Value).toArray s 8 1059 A) (F0 m 118 ls [.int (iI (clK y)), .ref h0]) := by
      refine va_put (D := D) (ci := 1) (v := .int (iI (clK y))) (ty := .int) (C := R_M) (T := F_M) (N := 14) hx hb hts i_M t_M t_M_ok n_M hown hK hP hD hS 0 rfl rfl 1 (by decide) (hts _ fl_M_1) (fun _ h9 => h9) rfl (by decide +kernel) rfl rfl (Nat.le_of_ble_eq_true rfl) d_M_init_118 (fun H locs hP hD hS => ?_)
      have hP : va_P D classes [(h0, .inr (1, [.int (nI (clC x)), .int (iI (clK y)), .ref q1, .ref q2, .ref q3, .ref q4, .ref q5, .ref q6, .ref q7, .ref q8, .int 0, .int 0, .int (-1), .int 0])), (q1, .inl (c1, 5, .inl (fun _ => nI 0))), (q2, .inl (c2, 5, .inl (fun _ => nI 0))), (q3, .inl (c3, 5, .inl (fun _ => nI 0))), (q4, .inl (c4, 5, .inl (fun _ => nI 0))), (q5, .inl (c5, 5, .inl (fun _ => nI 0))), (q6, .inl (c6, 5, .inl (fun _ => nI 0))), (q7, .inl (c7, 5, .inl (fun _ => nI 0))), (q8, .inl (c8, 1024, .inl (fun _ => iI 0)))] H := hP
      have hD : va_D A [(h0, .inr (1, [.int (nI (clC x)), .int (iI (clK y)), .ref q1, .ref q2, .ref q3, .ref q4, .ref q5, .ref q6, .ref q7, .ref q8, .int 0, .int 0, .int (-1), .int 0])), (q1, .inl (c1, 5, .inl (fun _ => nI 0))), (q2, .inl (c2, 5, .inl (fun _ => nI 0))), (q3, .inl (c3, 5, .inl (fun _ => nI 0))), (q4, .inl (c4, 5, .inl (fun _ => nI 0))), (q5, .inl (c5, 5, .inl (fun _ => nI 0))), (q6, .inl (c6, 5, .inl (fun _ => nI 0))), (q7, .inl (c7, 5, .inl (fun _ => nI 0))), (q8, .inl (c8, 1024, .inl (fun _ => iI 0)))] := hD
      have hP9 : va_P D classes (wM (adr h0 q1 q2 q3 q4 q5 q6 q7 q8) (cla c1 c2 c3 c4 c5 c6 c7 c8) (clC x, clK y, 0, 0, (-1), 0, (fun _ _ => 0), fun _ => 0)) H := hP
      have hD9 : va_D A (wM (adr h0 q1 q2 q3 q4 q5 q6 q7 q8) (cla c1 c2 c3 c4 c5 c6 c7 c8) (clC x, clK y, 0, 0, (-1), 0, (fun _ _ => 0), fun _ => 0)) := hD
      have hK9 : va_K D classes (tysM (cla c1 c2 c3 c4 c5 c6 c7 c8)) s := hK
      exact W.vret hx hb hr (fun t ht hW => ⟨⟨(adr h0 q1 q2 q3 q4 q5 q6 q7 q8, cla c1 c2 c3 c4 c5 c6 c7 c8), rfl, rfl, by rw [ht]; exact hP9, va_K.moved hW.alike hK9, hD9⟩, hS.F ht⟩) hS.2.2 d_M_init_121
    refine lv_iload_n hx hb d_M_init_91 rfl (lv_at hl 2 rfl) ?_
    refine lv_sipush (v := -200) hx hb d_M_init_92 (by decide) ?_
    refine lv_icmp_ge (tgt := 104) hx hb d_M_init_95 (by decide) (fun c1 => ?_) (fun c1 => ?_)
    · refine lv_iload_n hx hb d_M_init_104 rfl (lv_at hl 2 rfl) ?_
      refine lv_sipush (v := 1000) hx hb d_M_init_105 (by decide) ?_
      refine lv_icmp_le (tgt := 117) hx hb d_M_init_108 (by decide) (fun c2 => ?_) (fun c2 => ?_)
      · refine lv_iload_n hx hb d_M_init_117 rfl (lv_at hl 2 rfl) ?_
        rw [← clK_y c1 c2] at k117
        exact k117
      · refine lv_sipush (v := 1000) hx hb d_M_init_111 (by decide) ?_
        refine lv_goto (tgt := 118) hx hb d_M_init_114 (by decide) ?_
        rw [← clK_2 c1 c2] at k117
        exact k117
    · refine lv_sipush (v := -200) hx hb d_M_init_98 (by decide) ?_
      refine lv_goto (tgt := 118) hx hb d_M_init_101 (by decide) ?_
      rw [← clK_1 c1] at k117
      exact k117
  refine lv_aload_n hx hb d_M_init_67 rfl (lv_at hl 0 rfl) ?_
  refine lv_iload_n hx hb d_M_init_68 rfl (lv_at hl 1 rfl) ?_
  refine lv_iconst (v := 1) hx hb d_M_init_69 (by decide) ?_
  refine lv_icmp_ge (tgt := 77) hx hb d_M_init_70 (by decide) (fun c1 => ?_) (fun c1 => ?_)
  · refine lv_iload_n hx hb d_M_init_77 rfl (lv_at hl 1 rfl) ?_
    refine lv_iconst (v := 5) hx hb d_M_init_78 (by decide) ?_
    refine lv_icmp_le (tgt := 86) hx hb d_M_init_79 (by decide) (fun c2 => ?_) (fun c2 => ?_)
    · refine lv_iload_n hx hb d_M_init_86 rfl (lv_at hl 1 rfl) ?_
      rw [← clC_x c1 c2] at k86
      exact k86
    · refine lv_iconst (v := 5) hx hb d_M_init_82 (by decide) ?_
      refine lv_goto (tgt := 87) hx hb d_M_init_83 (by decide) ?_
      rw [← clC_5 c1 c2] at k86
      exact k86
  · refine lv_iconst (v := 1) hx hb d_M_init_73 (by decide) ?_
    refine lv_goto (tgt := 87) hx hb d_M_init_74 (by decide) ?_
    rw [← clC_1 c1] at k86
    exact k86
end
section
/-! ===== what the law needs of each pair of calls ===== -/
section LOPS
variable {cp : Nat} {cap : Int} {pr : Nat} {N M : Nat → Nat → Nat}
theorem op_add {fb mb pr1 pr2 : Nat} {x y r1 r2 : Int32} {N' M' : Nat → Nat → Nat} (h : REL cp cap pr N M) (hx : AddX cp cap pr (-1) fb N x y r1 pr1 N') (hm : AddM cp cap pr (-1) mb M x y r2 pr2 M') : r1 = r2 ∧ REL cp cap pr1 N' M' := by
  rcases hx with ⟨rfl, rfl, rfl, hn⟩ | ⟨r, p, rfl, rfl, e1, e2, e3, e4⟩
  · rcases hm with ⟨rfl, rfl, rfl, -⟩ | ⟨r, p, rfl, rfl, e1, e2, e3, e4⟩
    · exact ⟨rfl, h⟩
    · rw [tI r (by omega), tI p (by omega)] at hn
      exact absurd (by omega) hn
  · rcases hm with ⟨rfl, rfl, rfl, hn⟩ | ⟨r', p', z1, z2, f1, f2, f3, f4⟩
    · rw [tI r (by omega), tI p (by omega)] at hn
      exact absurd (by omega) hn
    · obtain rfl := nI_inj (by omega) (by omega) z1
      obtain rfl := nI_inj (by omega) (by omega) z2
      exact op_ent h e1 e2 e3 (by omega) (by omega) e4 f4
theorem op_addR {fb mb pr1 pr2 : Nat} {x y z r1 r2 : Int32} {N' M' : Nat → Nat → Nat} (h : REL cp cap pr N M) (hx : AddRX cp cap pr (-1) fb N x y z r1 pr1 N') (hm : AddRM cp cap pr (-1) mb M x y z r2 pr2 M') : r1 = r2 ∧ REL cp cap pr1 N' M' := by
  rcases hx with ⟨rfl, rfl, rfl, hn⟩ | ⟨p, k, d, rfl, rfl, rfl, e1, e2, e3, e4, e5⟩
  · rcases hm with ⟨rfl, rfl, rfl, -⟩ | ⟨p, k, d, rfl, rfl, rfl, e1, e2, e3, e4, e5⟩
    · exact ⟨rfl, h⟩
    · rw [tI p (by omega), tI k (by omega), tI d (by omega)] at hn
      exact absurd (by omega) hn
  · rcases hm with ⟨rfl, rfl, rfl, hn⟩ | ⟨p', k', d', z1, z2, z3, f1, f2, f3, f4, f5⟩
    · rw [tI p (by omega), tI k (by omega), tI d (by omega)] at hn
      exact absurd (by omega) hn
    · obtain rfl := nI_inj (by omega) (by omega) z1
      obtain rfl := nI_inj (by omega) (by omega) z2
      obtain rfl := nI_inj (by omega) (by omega) z3
      exact op_ent h (by omega) e1 e2 e3 e4 e5 f5
def UnlX (cp pr : Nat) (N : Nat → Nat → Nat) (x y r : Int32) (N' : Nat → Nat → Nat) : Prop := (r = nI 0 ∧ N' = N ∧ ¬ lkd cp pr (N 6) x y) ∨ ∃ i j, x = nI i ∧ y = nI j ∧ i < cp ∧ j < cp ∧ pr.testBit i = true ∧ pr.testBit j = true ∧ (N 6 i).testBit j = true ∧ r = nI 1 ∧ N' = folN N i (dif (N 6 i) (2 ^ j))
theorem unl_x {fo : Int} {fb pn be : Nat} {x y r : Int32} {u' : SX} (h : (r = nI 0 ∧ u' = (cp, cap, pr, fo, fb, pn, be, N) ∧ ¬ lkd cp pr (N 6) x y) ∨ ∃ i j, x = nI i ∧ y = nI j ∧ i < cp ∧ j < cp ∧ pr.testBit i = true ∧ pr.testBit j = true ∧ (N 6 i).testBit j = true ∧ r = nI 1 ∧ u' = (cp, cap, pr, fo, fb, pn, be, folN N i (dif (N 6 i) (2 ^ j)))) : ∃ N', u' = (cp, cap, pr, fo, fb, pn, be, N') ∧ UnlX cp pr N x y r N' := by
  rcases h with ⟨h1, h2, h3⟩ | ⟨i, j, h1, h2, h3, h4, h5, h6, h7, h8, h9⟩
  · exact ⟨N, h2, Or.inl ⟨h1, rfl, h3⟩⟩
  · exact ⟨_, h9, Or.inr ⟨i, j, h1, h2, h3, h4, h5, h6, h7, h8, rfl⟩⟩
def UnlM (pr : Nat) (M : Nat → Nat → Nat) (x y r : Int32) (M' : Nat → Nat → Nat) : Prop := (r = nI 0 ∧ M' = M ∧ ¬ lkm pr (M 7) x y) ∨ ∃ i j, x = nI i ∧ y = nI j ∧ i < 5 ∧ j < 5 ∧ pr.testBit i = true ∧ pr.testBit j = true ∧ (M 7 j).testBit i = true ∧ r = nI 1 ∧ M' = preN M j (dif (M 7 j) (2 ^ i))
theorem unl_m {fu : Nat} {fd mi : Int} {mb : Nat} {B : Nat → Int} {x y r : Int32} {u' : SM} (h : (r = nI 0 ∧ u' = (cp, cap, fu, fd, mi, mb, M, B) ∧ ¬ lkm pr (M 7) x y) ∨ ∃ i j, x = nI i ∧ y = nI j ∧ i < 5 ∧ j < 5 ∧ pr.testBit i = true ∧ pr.testBit j = true ∧ (M 7 j).testBit i = true ∧ r = nI 1 ∧ u' = (cp, cap, fu, fd, mi, mb, preN M j (dif (M 7 j) (2 ^ i)), B)) : ∃ M', u' = (cp, cap, fu, fd, mi, mb, M', B) ∧ UnlM pr M x y r M' := by
  rcases h with ⟨h1, h2, h3⟩ | ⟨i, j, h1, h2, h3, h4, h5, h6, h7, h8, h9⟩
  · exact ⟨M, h2, Or.inl ⟨h1, rfl, h3⟩⟩
  · exact ⟨_, h9, Or.inr ⟨i, j, h1, h2, h3, h4, h5, h6, h7, h8, rfl⟩⟩
theorem op_unl {x y r1 r2 : Int32} {N' M' : Nat → Nat → Nat} (h : REL cp cap pr N M) (hx : UnlX cp pr N x y r1 N') (hm : UnlM pr M x y r2 M') : r1 = r2 ∧ REL cp cap pr N' M' := by
  have hk := lk_iff (x := x) (y := y) h
  have hcp := h.1.1
  rcases hx with ⟨rfl, rfl, hn⟩ | ⟨i, j, rfl, rfl, e1, e2, e3, e4, e5, rfl, rfl⟩
  · rcases hm with ⟨rfl, rfl, -⟩ | ⟨i, j, h1, h2, h3, h4, h5, h6, h7, -⟩
    · exact ⟨rfl, h⟩
    · exact absurd (hk.mpr ⟨i, j, h1, h2, h3, h4, h5, h6, h7⟩) hn
  · rcases hm with ⟨rfl, rfl, hn⟩ | ⟨i', j', z1, z2, f1, f2, f3, f4, f5, rfl, rfl⟩
    · exact absurd (hk.mp ⟨i, j, rfl, rfl, e1, e2, e3, e4, e5⟩) hn
    · obtain rfl := nI5 (by omega) f1 z1
      obtain rfl := nI5 (by omega) f2 z2
      exact ⟨rfl, rel_unl h e3 e4⟩
def RemX (cp pr : Nat) (N : Nat → Nat → Nat) (x r : Int32) (pr' : Nat) (N' : Nat → Nat → Nat) : Prop := (r = nI 0 ∧ pr' = pr ∧ N' = N ∧ ¬ hld cp pr x) ∨ ∃ i f, x = nI i ∧ i < cp ∧ pr.testBit i = true ∧ r = nI 1 ∧ pr' = dif pr (2 ^ i) ∧ N' = va_up N 6 f ∧ rmP (va_up (N 6) i 0) (2 ^ i) 5 f
theorem rem_x {fo : Int} {fb pn be : Nat} {x r : Int32} {u' : SX} (h : (r = nI 0 ∧ u' = (cp, cap, pr, fo, fb, pn, be, N) ∧ ¬ hld cp pr x) ∨ ∃ i, x = nI i ∧ i < cp ∧ pr.testBit i = true ∧ r = nI 1 ∧ ∃ f, u' = (cp, cap, dif pr (2 ^ i), fo, fb, pn, be, va_up N 6 f) ∧ rmP (va_up (N 6) i 0) (2 ^ i) 5 f) : ∃ pr' N', u' = (cp, cap, pr', fo, fb, pn, be, N') ∧ RemX cp pr N x r pr' N' := by
  rcases h with ⟨h1, h2, h3⟩ | ⟨i, h1, h2, h3, h4, f, h5, h6⟩
  · exact ⟨pr, N, h2, Or.inl ⟨h1, rfl, rfl, h3⟩⟩
  · exact ⟨_, _, h5, Or.inr ⟨i, f, h1, h2, h3, h4, rfl, rfl, h6⟩⟩
def RemM (pr : Nat) (M : Nat → Nat → Nat) (x r : Int32) (M' : Nat → Nat → Nat) : Prop := (r = nI 0 ∧ M' = M ∧ ¬ hld 5 pr x) ∨ ∃ i f, x = nI i ∧ i < 5 ∧ pr.testBit i = true ∧ r = nI 1 ∧ M' = va_up (helN M i 0) 7 f ∧ rmP (M 7) (2 ^ i) 5 f
theorem rem_m {fu : Nat} {fd mi : Int} {mb : Nat} {B : Nat → Int} {x r : Int32} {u' : SM} (h : (r = nI 0 ∧ u' = (cp, cap, fu, fd, mi, mb, M, B) ∧ ¬ hld 5 pr x) ∨ ∃ i, x = nI i ∧ i < 5 ∧ pr.testBit i = true ∧ r = nI 1 ∧ ∃ f, u' = (cp, cap, fu, fd, mi, mb, va_up (helN M i 0) 7 f, B) ∧ rmP (M 7) (2 ^ i) 5 f) : ∃ M', u' = (cp, cap, fu, fd, mi, mb, M', B) ∧ RemM pr M x r M' := by
  rcases h with ⟨h1, h2, h3⟩ | ⟨i, h1, h2, h3, h4, f, h5, h6⟩
  · exact ⟨M, h2, Or.inl ⟨h1, rfl, h3⟩⟩
  · exact ⟨_, h5, Or.inr ⟨i, f, h1, h2, h3, h4, rfl, h6⟩⟩
theorem op_rem {pr1 : Nat} {x r1 r2 : Int32} {N' M' : Nat → Nat → Nat} (h : REL cp cap pr N M) (hx : RemX cp pr N x r1 pr1 N') (hm : RemM pr M x r2 M') : r1 = r2 ∧ REL cp cap pr1 N' M' := by
  have hcp := h.1.1
  have h5 := hld5 (x := x) hcp.2 h.1.2.2.2.1
  rcases hx with ⟨rfl, rfl, rfl, hn⟩ | ⟨i, f, rfl, e1, e2, rfl, rfl, rfl, e3⟩
  · rcases hm with ⟨rfl, rfl, -⟩ | ⟨i, f, h1, h2, h3, -⟩
    · exact ⟨rfl, h⟩
    · exact absurd (h5.mp ⟨i, h2, h1, h3⟩) hn
  · rcases hm with ⟨rfl, rfl, hn⟩ | ⟨i', f', z1, f1, f2, rfl, rfl, f3⟩
    · exact absurd (h5.mpr ⟨i, e1, rfl, e2⟩) hn
    · obtain rfl := nI5 (by omega) f1 z1
      exact ⟨rfl, rel_rem h e2 e3 f3⟩
theorem op_lkd {x y r1 r2 : Int32} (h : REL cp cap pr N M) (hx : (r1 = nI 1 ∧ lkd cp pr (N 6) x y) ∨ (r1 = nI 0 ∧ ¬ lkd cp pr (N 6) x y)) (hm : (r2 = nI 1 ∧ lkm pr (M 7) x y) ∨ (r2 = nI 0 ∧ ¬ lkm pr (M 7) x y)) : r1 = r2 := by
  have hk := lk_iff (x := x) (y := y) h
  rcases hx with ⟨rfl, a⟩ | ⟨rfl, a⟩ <;> rcases hm with ⟨rfl, b⟩ | ⟨rfl, b⟩
  · rfl
  · exact absurd (hk.mp a) b
  · exact absurd (hk.mpr b) a
  · rfl
theorem op_cost {x y r1 r2 : Int32} (h : REL cp cap pr N M) (hx : (r1 = (-2000) ∧ ¬ (hld cp pr x ∧ 0 ≤ y.toInt ∧ y.toInt ≤ 60)) ∨ ∃ i t, x = nI i ∧ y = nI t ∧ i < cp ∧ pr.testBit i = true ∧ t ≤ 60 ∧ r1 = iI (cst (N 3 i) (N 4 i) (N 5 i) t)) (hm : (r2 = (-2000) ∧ ¬ (hld 5 pr x ∧ 0 ≤ y.toInt ∧ y.toInt ≤ 60)) ∨ ∃ i t, x = nI i ∧ y = nI t ∧ i < 5 ∧ pr.testBit i = true ∧ t ≤ 60 ∧ r2 = iI (cst (M 4 i) (M 5 i) (M 6 i) t)) : r1 = r2 := by
  have hcp := h.1.1
  have h5 := hld5 (x := x) hcp.2 h.1.2.2.2.1
  rcases hx with ⟨rfl, hn⟩ | ⟨i, t, rfl, rfl, e1, e2, e3, rfl⟩
  · rcases hm with ⟨rfl, -⟩ | ⟨i, t, rfl, rfl, e1, e2, e3, -⟩
    · rfl
    · refine absurd ⟨h5.mp ⟨i, e1, rfl, e2⟩, ?_⟩ hn
      rw [tI t (by omega)]
      omega
  · rcases hm with ⟨rfl, hn⟩ | ⟨i', t', z1, z2, f1, f2, f3, rfl⟩
    · refine absurd ⟨h5.mpr ⟨i, e1, rfl, e2⟩, ?_⟩ hn
      rw [tI t (by omega)]
      omega
    · obtain rfl := nI5 (by omega) f1 z1
      obtain rfl := nI_inj (by omega) (by omega) z2
      obtain ⟨-, -, a3, a4, a5⟩ := h.2.2.1.1 i e2
      rw [a3, a4, a5]
theorem op_worst {fb mb : Nat} {r1 r2 : Int32} (h : REL cp cap pr N M) (hx : OptX N (-1) fb pr r1) (hm : OptM pr M (-1) mb r2) : r1 = r2 := op_opt h.1.2.2.1 h.2.2.1 h.1.2.2.2.2.2.2.2.2.2 h.1.2.1.2 hx hm
theorem op_without {fb mb : Nat} {x r1 r2 : Int32} (h : REL cp cap pr N M) (hx : (¬ hld cp pr x ∧ r1 = (-2000)) ∨ ∃ i, x = nI i ∧ i < cp ∧ pr.testBit i = true ∧ OptX N (-1) fb (dif pr (2 ^ i)) r1) (hm : (¬ hld 5 pr x ∧ r2 = (-2000)) ∨ ∃ i, x = nI i ∧ i < 5 ∧ pr.testBit i = true ∧ OptM (dif pr (2 ^ i)) (helN M i 0) (-1) mb r2) : r1 = r2 := by
  have hcp := h.1.1
  have h5 := hld5 (x := x) hcp.2 h.1.2.2.2.1
  have hpr := h.1.2.2.1
  rcases hx with ⟨hn, rfl⟩ | ⟨i, rfl, e1, e2, e3⟩
  · rcases hm with ⟨-, rfl⟩ | ⟨i, h1, h2, h3, -⟩
    · rfl
    · exact absurd (h5.mp ⟨i, h2, h1, h3⟩) hn
  · rcases hm with ⟨hn, rfl⟩ | ⟨i', z1, f1, f2, f3⟩
    · exact absurd (h5.mpr ⟨i, e1, rfl, e2⟩) hn
    · obtain rfl := nI5 (by omega) f1 z1
      have hs : ∀ j, (dif pr (2 ^ i)).testBit j = true → pr.testBit j = true := fun j hj => ((dif_t hpr).mp hj).1
      have hR : RelD (dif pr (2 ^ i)) N (helN M i 0) := reld_sub (M := M) h.2.2.1 hs
      exact op_opt (dif_lt hpr) hR (feas_sub (dif_lt hpr) hs h.1.2.2.2.2.2.2.2.2.2) h.1.2.1.2 e3 f3
def FinX (cp : Nat) (cap : Int) (pr : Nat) (N : Nat → Nat → Nat) (x r : Int32) : Prop := (r = (-2000) ∧ ¬ hld cp pr x) ∨ ∃ i f, x = nI i ∧ i < cp ∧ pr.testBit i = true ∧ r = nI f ∧ 1 ≤ f ∧ f ≤ 60 ∧ (∀ f', 1 ≤ f' → f' < f → ¬ FE N (i : Int) f' pr cap) ∧ (FE N (i : Int) f pr cap ∨ f = 60)
theorem fin_x {fb pn be : Nat} {x r : Int32} {u' : SX} (hfb : fb ≤ 60) (h : (r = (-2000) ∧ u' = (cp, cap, pr, (-1), fb, pn, be, N) ∧ ¬ hld cp pr x) ∨ ∃ i, x = nI i ∧ i < cp ∧ pr.testBit i = true ∧ ∃ f fb' pn' be' rd pd, r = nI f ∧ fb' ≤ 60 ∧ u' = (cp, cap, pr, (-1), fb', pn', be', sc N rd pd) ∧ 1 ≤ f ∧ f ≤ 60 ∧ (∀ f', 1 ≤ f' → f' < f → ¬ FE N (i : Int) f' pr cap) ∧ (FE N (i : Int) f pr cap ∨ f = 60)) : ∃ fb' pn' be' rd pd, fb' ≤ 60 ∧ u' = (cp, cap, pr, (-1), fb', pn', be', sc N rd pd) ∧ FinX cp cap pr N x r := by
  rcases h with ⟨h1, h2, h3⟩ | ⟨i, h1, h2, h3, f, fb', pn', be', rd, pd, h4, h5, h6, h7⟩
  · exact ⟨fb, pn, be, N 7, N 8, hfb, by rw [sc_self]; exact h2, Or.inl ⟨h1, h3⟩⟩
  · exact ⟨fb', pn', be', rd, pd, h5, h6, Or.inr ⟨i, f, h1, h2, h3, h4, h7⟩⟩
def FinM (pr : Nat) (cap : Int) (M : Nat → Nat → Nat) (x r : Int32) : Prop := (r = (-2000) ∧ ¬ hld 5 pr x) ∨ ∃ i least, x = nI i ∧ i < 5 ∧ pr.testBit i = true ∧ r = iI least ∧ EFP (fun f => FM pr M (i : Int) f cap) 0 least
theorem fin_m {fu mb : Nat} {fd : Int} {B : Nat → Int} {x r : Int32} {u' : SM} (hmb : mb ≤ 60) (h : (r = (-2000) ∧ u' = (cp, cap, fu, fd, (-1), mb, M, B) ∧ ¬ hld 5 pr x) ∨ ∃ i, x = nI i ∧ i < 5 ∧ pr.testBit i = true ∧ ∃ least fu' fd' mb' B', r = iI least ∧ mb' ≤ 60 ∧ u' = (cp, cap, fu', fd', (-1), mb', M, B') ∧ EFP (fun f => FM pr M (i : Int) f cap) 0 least) : ∃ fu' fd' mb' B', mb' ≤ 60 ∧ u' = (cp, cap, fu', fd', (-1), mb', M, B') ∧ FinM pr cap M x r := by
  rcases h with ⟨h1, h2, h3⟩ | ⟨i, h1, h2, h3, least, fu', fd', mb', B', h4, h5, h6, h7⟩
  · exact ⟨fu, fd, mb, B, hmb, h2, Or.inl ⟨h1, h3⟩⟩
  · exact ⟨fu', fd', mb', B', h5, h6, Or.inr ⟨i, least, h1, h2, h3, h4, h7⟩⟩
theorem op_finish {x r1 r2 : Int32} (h : REL cp cap pr N M) (hx : FinX cp cap pr N x r1) (hm : FinM pr cap M x r2) : r1 = r2 := by
  have hcp := h.1.1
  have h5 := hld5 (x := x) hcp.2 h.1.2.2.2.1
  rcases hx with ⟨rfl, hn⟩ | ⟨i, f, rfl, e1, e2, rfl, e3, e4, e5, e6⟩
  · rcases hm with ⟨rfl, -⟩ | ⟨i, least, h1, h2, h3, -⟩
    · rfl
    · exact absurd (h5.mp ⟨i, h2, h1, h3⟩) hn
  · rcases hm with ⟨rfl, hn⟩ | ⟨i', least, z1, f1, f2, rfl, f3⟩
    · exact absurd (h5.mpr ⟨i, e1, rfl, e2⟩) hn
    · obtain rfl := nI5 (by omega) f1 z1
      rw [op_fin h f1 e3 e4 e5 e6 f3, nI_iI]
theorem op_del {fb mb : Nat} {x r1 r2 : Int32} (h : REL cp cap pr N M) (hx : (¬ hld cp pr x ∧ r1 = (-2000)) ∨ ∃ i a, x = nI i ∧ i < cp ∧ pr.testBit i = true ∧ r1 = nI a ∧ a ≤ 9 ∧ (∀ q, 1 ≤ q → q ≤ a → FE (relN N i (N 1 i + q)) (-1) fb pr cap) ∧ (a = 9 ∨ ¬ FE (relN N i (N 1 i + (a + 1))) (-1) fb pr cap)) (hm : (¬ hld 5 pr x ∧ r2 = (-2000)) ∨ ∃ i a, x = nI i ∧ i < 5 ∧ pr.testBit i = true ∧ r2 = nI a ∧ DYP (fun q => FM pr (relM M i (M 2 i + q)) (-1) mb cap) 10 a) : r1 = r2 := by
  have hcp := h.1.1
  have h5 := hld5 (x := x) hcp.2 h.1.2.2.2.1
  rcases hx with ⟨hn, rfl⟩ | ⟨i, a, rfl, e1, e2, rfl, e3, e4, e5⟩
  · rcases hm with ⟨-, rfl⟩ | ⟨i, a, h1, h2, h3, -⟩
    · rfl
    · exact absurd (h5.mp ⟨i, h2, h1, h3⟩) hn
  · rcases hm with ⟨hn, rfl⟩ | ⟨i', a', z1, f1, f2, rfl, f3⟩
    · exact absurd (h5.mpr ⟨i, e1, rfl, e2⟩) hn
    · obtain rfl := nI5 (by omega) f1 z1
      rw [op_delay h e2 e3 e4 e5 f3]
theorem op_could {fb mb : Nat} {x y r1 r2 : Int32} (h : REL cp cap pr N M) (hx : CouX cp cap pr (-1) fb N x y r1) (hm : CouM pr cap (-1) mb M x y r2) : r1 = r2 := by
  obtain ⟨r0, N0, a1, a2⟩ := hx
  obtain ⟨r0', M0, b1, b2⟩ := hm
  obtain ⟨rfl, -⟩ := op_link h a1 b1
  rcases a2 with ⟨rfl, a3⟩ | ⟨rfl, a3⟩ <;> rcases b2 with ⟨rfl, b3⟩ | ⟨rfl, b3⟩
  · rfl
  · exact absurd a3 b3
  · exact absurd b3 a3
  · rfl
/-- the start -/
theorem rel_0 {cp : Nat} {cap : Int} (hc : 1 ≤ cp ∧ cp ≤ 5) (hk : -200 ≤ cap ∧ cap ≤ 1000) : REL cp cap 0 (fun _ _ => 0) (fun _ _ => 0) := by
  have z1 : ∀ n : Nat, 0 ≤ n := fun n => Nat.zero_le n
  have z2 : (0 : Nat) < 32 := by decide
  have z3 : (0 : Nat) < 5 := by decide
  exact ⟨⟨hc, hk, z2, fun j hj => by simp at hj, fun j _ => ⟨z1 _, z1 _, z1 _, z1 _, z1 _, z2⟩, fun j _ => z1 _, fun j hj => by simp at hj, fun a ha => by simp at ha, ⟨fun _ => 0, fun j _ => z3, fun i j hi => by simp at hi⟩, FE_0⟩, ⟨fun j _ => by simp, fun j _ => ⟨z1 _, z1 _, z1 _, z1 _, z1 _, z2⟩⟩, ⟨fun j hj => by simp at hj, fun i j hi => by simp at hi⟩, fun j hj => by simp at hj⟩
end LOPS
end
section
/-! ===== the law's own rows ===== -/
def wL (h : Nat → Nat) (cs : Nat → ClassId) (h2 : Nat → Nat) (c2 : Nat → ClassId) (u : SX × SM) : va_W := wX h cs u.1 ++ wM h2 c2 u.2
section LROWS
variable {S : Type} {l : Launch} {D : va_G} {tys : List (ClassId × FieldType)} {K : Kc} {cc : ByteArray} {nL d : Nat} {own : String} {w : S → va_W} {u : S} {pc : Nat} {L st : List Value}
theorem j_sld (C : Kok D tys K cc nL own d) {b n : Nat} {xs : Nat → Int32} (hX : va_X b n xs K.1.2.2.2 K.1.2.2.2.heap) (hbl : b < K.1.2.2.2.heap.size) (hbA : ¬ K.2.2.1 b) {i : Nat} (hdg : decode cc pc = .ok (.iaload, 1)) (hi : i < n) (hn : n < 2147483648) (k : J l D K w u (pc + 1) L (.int (xs i) :: st)) : J l D K w u pc L (.int (nI i) :: .ref b :: st) := by
  intro H locs ls hP hD hS hl
  refine va_sld C.1 C.2.1 hX hbl hbA hS (vp_in_nI hi (by omega)) hdg ?_
  rw [nI_cl (by omega)]
  exact k H locs ls hP hD hS hl
theorem j_slen (C : Kok D tys K cc nL own d) {b n : Nat} {xs : Nat → Int32} (hX : va_X b n xs K.1.2.2.2 K.1.2.2.2.heap) (hbl : b < K.1.2.2.2.heap.size) (hbA : ¬ K.2.2.1 b) (hdg : decode cc pc = .ok (.arraylength, 1)) (k : J l D K w u (pc + 1) L (.int (nI n) :: st)) : J l D K w u pc L (.ref b :: st) :=
  fun H locs ls hP hD hS hl => va_slen C.1 C.2.1 hX hbl hbA hS hdg (k H locs ls hP hD hS hl)
theorem j_tin (C : Kok D tys K cc nL own d) {x : Int32} {a dflt lo hi off : Int} {offs : Array Int} {len tgt : Nat} (hdg : decode cc pc = .ok (.tableswitch dflt lo hi offs, len)) (hx : x.toInt = a) (h1 : lo ≤ a) (h2 : a ≤ hi) (ho : offs[(a - lo).toNat]? = some off) (ht : (pc : Int) + off = (tgt : Int)) (k : J l D K w u tgt L st) : J l D K w u pc L (.int x :: st) := by
  subst hx
  exact fun H locs ls hP hD hS hl => lv_tableIn C.1 C.2.1 hdg (Int.not_lt.mpr h1) (Int.not_lt.mpr h2) ho ht (k H locs ls hP hD hS hl)
theorem j_tout (C : Kok D tys K cc nL own d) {x : Int32} {a dflt lo hi : Int} {offs : Array Int} {len tgt : Nat} (hdg : decode cc pc = .ok (.tableswitch dflt lo hi offs, len)) (hx : x.toInt = a) (h : a < lo ∨ hi < a) (ht : (pc : Int) + dflt = (tgt : Int)) (k : J l D K w u tgt L st) : J l D K w u pc L (.int x :: st) := by
  subst hx
  exact fun H locs ls hP hD hS hl => lv_tableOut C.1 C.2.1 hdg h ht (k H locs ls hP hD hS hl)
end LROWS
section LCALLS
variable {l : Launch} {D : va_G} {K : Kc} {cc : ByteArray} {nL d : Nat} {own : String} {pc : Nat} {L st : List Value} {h h2 : Nat → Nat} {cs c2 : Nat → ClassId} {uX : SX} {uM : SM}
variable {y : MethodName} {cy : ByteArray} {ny dy n idx : Nat} {As rest : List Value}
theorem jl_callX {ty : FieldType} {post : Int32 → SX → Prop} (C0 : Kok D (tysX cs ++ tysM c2) K cc nL own d) (hM : CI l y cy ny ty dy D (tysX cs) (wX h cs) uX (.ref (h 0) :: As) post) (hok : yOK y cy ny (some ty) n) (hml : Cond.methodLink own idx y ∈ wk_tbl) (hd : dy + 1 ≤ d) (hdg : decode cc pc = .ok (.invokevirtual idx, 3)) (hc : classes[0]? = some (y.cls, F_X, 15)) (hn : As.length = n) (hst : st = As.reverse ++ .ref (h 0) :: rest) (hroom : (rest.map fun v => v.category).sum ≤ 8)
    (kk : ∀ (r : Int32) (u' : SX), post r u' → J l D K (wL h cs h2 c2) (u', uM) (pc + 3) L (.int r :: rest)) : J l D K (wL h cs h2 c2) (uX, uM) pc L st := by
  intro H locs ls hP hD hS hl
  subst hst
  have hK := C0.2.2.2.2.2.1
  have hP0 : va_P D classes (wX h cs uX ++ wM h2 c2 uM) H := hP
  have hD0 : va_D K.2.2.1 (wX h cs uX ++ wM h2 c2 uM) := hD
  have hPc := hP0.sub (ws' := wX h cs uX) [0, 1, 2, 3, 4, 5, 6, 7, 8] rfl
  have hDc := hD0.sub (ws' := wX h cs uX) [0, 1, 2, 3, 4, 5, 6, 7, 8] (by decide) rfl
  have hKc := hK.sub (tys' := tysX cs) [0, 1, 2, 3, 4, 5, 6, 7] rfl
  have hFc := va_free (wc := wX h cs uX) hD0 hS C0.2.2.2.2.2.2.1 [0, 1, 2, 3, 4, 5, 6, 7, 8] rfl
  refine va_calli (A1 := va_A (wX h cs uX) H.size) (va_runV (As := As) (rest := rest) ⟨C0.1, C0.2.1, C0.2.2.1, C0.2.2.2.1, C0.2.2.2.2.1⟩ (hM H.size) (call_cw C0 hok hml hd) ⟨fun a U g mk q => ?_, va_recv hKc hPc hc (q0 := 0) rfl, fun U hU hW => ⟨rfl, by rw [hU], by rw [hU]; exact hPc, va_K.moved hW.alike hKc, hDc.weaken (fun _ _ _ _ => trivial)⟩⟩ rfl hn (by rw [← C0.2.2.1]; exact hl.1.1) rfl (lv_room hroom) hdg ⟨C0.2.2.2.2.2.2.2.2.1, C0.2.2.2.2.2.2.2.2.2⟩) hS (fun q _ h => hFc q h) hFc (fun r u' t H1 locs1 ht hvm hw hB hz1 hk1 hS1 => ?_)
  · obtain ⟨q0, q1, qP, qK, qD⟩ := q
    exact ⟨q0, q1, qP, va_K.moved (u := U) (U := U.calling g mk a) (Vm.Alike.refl U.vm) qK, qD⟩
  · obtain ⟨hP1, hK1, hD1⟩ := hB
    rw [ht] at hP1
    obtain ⟨hP2, hD2⟩ := va_join (wr := wM h2 c2 uM) (w1 := wX h cs u') hP0 hD0 [0, 1, 2, 3, 4, 5, 6, 7, 8] [9, 10, 11, 12, 13, 14, 15, 16, 17] rfl rfl (by decide) (by decide) hk1 hFc hP1 hD1
    have hP3 : va_P D classes (wL h cs h2 c2 (u', uM)) H1 := hP2.sub [9, 10, 11, 12, 13, 14, 15, 16, 17, 0, 1, 2, 3, 4, 5, 6, 7, 8] rfl
    have hD3 : va_D K.2.2.1 (wL h cs h2 c2 (u', uM)) := hD2.sub [9, 10, 11, 12, 13, 14, 15, 16, 17, 0, 1, 2, 3, 4, 5, 6, 7, 8] (by decide) rfl
    exact kk r u' hw H1 locs1 ls hP3 hD3 hS1 hl
theorem jl_callM {ty : FieldType} {post : Int32 → SM → Prop} (C0 : Kok D (tysX cs ++ tysM c2) K cc nL own d) (hM : CI l y cy ny ty dy D (tysM c2) (wM h2 c2) uM (.ref (h2 0) :: As) post) (hok : yOK y cy ny (some ty) n) (hml : Cond.methodLink own idx y ∈ wk_tbl) (hd : dy + 1 ≤ d) (hdg : decode cc pc = .ok (.invokevirtual idx, 3)) (hc : classes[1]? = some (y.cls, F_M, 14)) (hn : As.length = n) (hst : st = As.reverse ++ .ref (h2 0) :: rest) (hroom : (rest.map fun v => v.category).sum ≤ 8)
    (kk : ∀ (r : Int32) (u' : SM), post r u' → J l D K (wL h cs h2 c2) (uX, u') (pc + 3) L (.int r :: rest)) : J l D K (wL h cs h2 c2) (uX, uM) pc L st := by
  intro H locs ls hP hD hS hl
  subst hst
  have hK := C0.2.2.2.2.2.1
  have hP0 : va_P D classes (wX h cs uX ++ wM h2 c2 uM) H := hP
  have hD0 : va_D K.2.2.1 (wX h cs uX ++ wM h2 c2 uM) := hD
  have hPc := hP0.sub (ws' := wM h2 c2 uM) [9, 10, 11, 12, 13, 14, 15, 16, 17] rfl
  have hDc := hD0.sub (ws' := wM h2 c2 uM) [9, 10, 11, 12, 13, 14, 15, 16, 17] (by decide) rfl
  have hKc := hK.sub (tys' := tysM c2) [8, 9, 10, 11, 12, 13, 14, 15] rfl
  have hFc := va_free (wc := wM h2 c2 uM) hD0 hS C0.2.2.2.2.2.2.1 [9, 10, 11, 12, 13, 14, 15, 16, 17] rfl
  refine va_calli (A1 := va_A (wM h2 c2 uM) H.size) (va_runV (As := As) (rest := rest) ⟨C0.1, C0.2.1, C0.2.2.1, C0.2.2.2.1, C0.2.2.2.2.1⟩ (hM H.size) (call_cw C0 hok hml hd) ⟨fun a U g mk q => ?_, va_recv hKc hPc hc (q0 := 0) rfl, fun U hU hW => ⟨rfl, by rw [hU], by rw [hU]; exact hPc, va_K.moved hW.alike hKc, hDc.weaken (fun _ _ _ _ => trivial)⟩⟩ rfl hn (by rw [← C0.2.2.1]; exact hl.1.1) rfl (lv_room hroom) hdg ⟨C0.2.2.2.2.2.2.2.2.1, C0.2.2.2.2.2.2.2.2.2⟩) hS (fun q _ h => hFc q h) hFc (fun r u' t H1 locs1 ht hvm hw hB hz1 hk1 hS1 => ?_)
  · obtain ⟨q0, q1, qP, qK, qD⟩ := q
    exact ⟨q0, q1, qP, va_K.moved (u := U) (U := U.calling g mk a) (Vm.Alike.refl U.vm) qK, qD⟩
  · obtain ⟨hP1, hK1, hD1⟩ := hB
    rw [ht] at hP1
    obtain ⟨hP2, hD2⟩ := va_join (wr := wX h cs uX) (w1 := wM h2 c2 u') hP0 hD0 [9, 10, 11, 12, 13, 14, 15, 16, 17] [0, 1, 2, 3, 4, 5, 6, 7, 8] rfl rfl (by decide) (by decide) hk1 hFc hP1 hD1
    exact kk r u' hw H1 locs1 ls hP2 hD2 hS1 hl
end LCALLS
end
section
theorem d_L_law_0 : decode code 0 = .ok (.new 7, 3) := by decide +kernel
theorem d_L_law_3 : decode code 3 = .ok (.dup, 1) := by decide +kernel
theorem d_L_law_4 : decode code 4 = .ok (.aload_n 0, 1) := by decide +kernel
theorem d_L_law_5 : decode code 5 = .ok (.iconst 0, 1) := by decide +kernel
theorem d_L_law_6 : decode code 6 = .ok (.invokestatic 9, 3) := by decide +kernel
theorem d_L_law_9 : decode code 9 = .ok (.aload_n 0, 1) := by decide +kernel
theorem d_L_law_10 : decode code 10 = .ok (.iconst 1, 1) := by decide +kernel
theorem d_L_law_11 : decode code 11 = .ok (.invokestatic 9, 3) := by decide +kernel
theorem d_L_law_14 : decode code 14 = .ok (.invokespecial 15, 3) := by decide +kernel
theorem d_L_law_17 : decode code 17 = .ok (.astore_n 1, 1) := by decide +kernel
theorem d_L_law_18 : decode code 18 = .ok (.new 18, 3) := by decide +kernel
theorem d_L_law_21 : decode code 21 = .ok (.dup, 1) := by decide +kernel
theorem d_L_law_22 : decode code 22 = .ok (.aload_n 0, 1) := by decide +kernel
theorem d_L_law_23 : decode code 23 = .ok (.iconst 0, 1) := by decide +kernel
theorem d_L_law_24 : decode code 24 = .ok (.invokestatic 9, 3) := by decide +kernel
theorem d_L_law_27 : decode code 27 = .ok (.aload_n 0, 1) := by decide +kernel
theorem d_L_law_28 : decode code 28 = .ok (.iconst 1, 1) := by decide +kernel
theorem d_L_law_29 : decode code 29 = .ok (.invokestatic 9, 3) := by decide +kernel
theorem d_L_law_32 : decode code 32 = .ok (.invokespecial 20, 3) := by decide +kernel
theorem d_L_law_35 : decode code 35 = .ok (.astore_n 2, 1) := by decide +kernel
theorem d_L_law_36 : decode code 36 = .ok (.iconst 2, 1) := by decide +kernel
theorem d_L_law_37 : decode code 37 = .ok (.istore_n 3, 1) := by decide +kernel
theorem d_L_law_38 : decode code 38 = .ok (.iload_n 3, 1) := by decide +kernel
theorem d_L_law_39 : decode code 39 = .ok (.aload_n 0, 1) := by decide +kernel
theorem d_L_law_40 : decode code 40 = .ok (.arraylength, 1) := by decide +kernel
theorem d_L_law_41 : decode code 41 = .ok (.iconst 5, 1) := by decide +kernel
theorem d_L_law_42 : decode code 42 = .ok (.isub, 1) := by decide +kernel
theorem d_L_law_43 : decode code 43 = .ok (.if_icmp .gt 516, 3) := by decide +kernel
theorem d_L_law_46 : decode code 46 = .ok (.aload_n 0, 1) := by decide +kernel
theorem d_L_law_47 : decode code 47 = .ok (.iload_n 3, 1) := by decide +kernel
theorem d_L_law_48 : decode code 48 = .ok (.iaload, 1) := by decide +kernel
theorem d_L_law_49 : decode code 49 = .ok (.bipush 15, 2) := by decide +kernel
theorem d_L_law_51 : decode code 51 = .ok (.iand, 1) := by decide +kernel
theorem d_L_law_52 : decode code 52 = .ok (.tableswitch 501 0 14 #[76, 109, 152, 205, 238, 271, 294, 307, 340, 373, 386, 409, 422, 445, 468], 76) := by decide +kernel
theorem d_L_law_128 : decode code 128 = .ok (.aload_n 1, 1) := by decide +kernel
theorem d_L_law_129 : decode code 129 = .ok (.aload_n 0, 1) := by decide +kernel
theorem d_L_law_130 : decode code 130 = .ok (.iload_n 3, 1) := by decide +kernel
theorem d_L_law_131 : decode code 131 = .ok (.iconst 1, 1) := by decide +kernel
theorem d_L_law_132 : decode code 132 = .ok (.iadd, 1) := by decide +kernel
theorem d_L_law_133 : decode code 133 = .ok (.iaload, 1) := by decide +kernel
theorem d_L_law_134 : decode code 134 = .ok (.aload_n 0, 1) := by decide +kernel
theorem d_L_law_135 : decode code 135 = .ok (.iload_n 3, 1) := by decide +kernel
theorem d_L_law_136 : decode code 136 = .ok (.iconst 2, 1) := by decide +kernel
theorem d_L_law_137 : decode code 137 = .ok (.iadd, 1) := by decide +kernel
theorem d_L_law_138 : decode code 138 = .ok (.iaload, 1) := by decide +kernel
theorem d_L_law_139 : decode code 139 = .ok (.invokevirtual 21, 3) := by decide +kernel
theorem d_L_law_142 : decode code 142 = .ok (.aload_n 2, 1) := by decide +kernel
theorem d_L_law_143 : decode code 143 = .ok (.aload_n 0, 1) := by decide +kernel
theorem d_L_law_144 : decode code 144 = .ok (.iload_n 3, 1) := by decide +kernel
theorem d_L_law_145 : decode code 145 = .ok (.iconst 1, 1) := by decide +kernel
theorem d_L_law_146 : decode code 146 = .ok (.iadd, 1) := by decide +kernel
theorem d_L_law_147 : decode code 147 = .ok (.iaload, 1) := by decide +kernel
theorem d_L_law_148 : decode code 148 = .ok (.aload_n 0, 1) := by decide +kernel
theorem d_L_law_149 : decode code 149 = .ok (.iload_n 3, 1) := by decide +kernel
theorem d_L_law_150 : decode code 150 = .ok (.iconst 2, 1) := by decide +kernel
theorem d_L_law_151 : decode code 151 = .ok (.iadd, 1) := by decide +kernel
theorem d_L_law_152 : decode code 152 = .ok (.iaload, 1) := by decide +kernel
theorem d_L_law_153 : decode code 153 = .ok (.invokevirtual 25, 3) := by decide +kernel
theorem d_L_law_156 : decode code 156 = .ok (.if_icmp .eq 397, 3) := by decide +kernel
theorem d_L_law_159 : decode code 159 = .ok (.iconst 0, 1) := by decide +kernel
theorem d_L_law_160 : decode code 160 = .ok (.ireturn, 1) := by decide +kernel
theorem d_L_law_161 : decode code 161 = .ok (.aload_n 1, 1) := by decide +kernel
theorem d_L_law_162 : decode code 162 = .ok (.aload_n 0, 1) := by decide +kernel
theorem d_L_law_163 : decode code 163 = .ok (.iload_n 3, 1) := by decide +kernel
theorem d_L_law_164 : decode code 164 = .ok (.iconst 1, 1) := by decide +kernel
theorem d_L_law_165 : decode code 165 = .ok (.iadd, 1) := by decide +kernel
theorem d_L_law_166 : decode code 166 = .ok (.iaload, 1) := by decide +kernel
theorem d_L_law_167 : decode code 167 = .ok (.aload_n 0, 1) := by decide +kernel
theorem d_L_law_168 : decode code 168 = .ok (.iload_n 3, 1) := by decide +kernel
theorem d_L_law_169 : decode code 169 = .ok (.iconst 2, 1) := by decide +kernel
theorem d_L_law_170 : decode code 170 = .ok (.iadd, 1) := by decide +kernel
theorem d_L_law_171 : decode code 171 = .ok (.iaload, 1) := by decide +kernel
theorem d_L_law_172 : decode code 172 = .ok (.aload_n 0, 1) := by decide +kernel
theorem d_L_law_173 : decode code 173 = .ok (.iload_n 3, 1) := by decide +kernel
theorem d_L_law_174 : decode code 174 = .ok (.iconst 3, 1) := by decide +kernel
theorem d_L_law_175 : decode code 175 = .ok (.iadd, 1) := by decide +kernel
theorem d_L_law_176 : decode code 176 = .ok (.iaload, 1) := by decide +kernel
theorem d_L_law_177 : decode code 177 = .ok (.invokevirtual 26, 3) := by decide +kernel
theorem d_L_law_180 : decode code 180 = .ok (.aload_n 2, 1) := by decide +kernel
theorem d_L_law_181 : decode code 181 = .ok (.aload_n 0, 1) := by decide +kernel
theorem d_L_law_182 : decode code 182 = .ok (.iload_n 3, 1) := by decide +kernel
theorem d_L_law_183 : decode code 183 = .ok (.iconst 1, 1) := by decide +kernel
theorem d_L_law_184 : decode code 184 = .ok (.iadd, 1) := by decide +kernel
theorem d_L_law_185 : decode code 185 = .ok (.iaload, 1) := by decide +kernel
theorem d_L_law_186 : decode code 186 = .ok (.aload_n 0, 1) := by decide +kernel
theorem d_L_law_187 : decode code 187 = .ok (.iload_n 3, 1) := by decide +kernel
theorem d_L_law_188 : decode code 188 = .ok (.iconst 2, 1) := by decide +kernel
theorem d_L_law_189 : decode code 189 = .ok (.iadd, 1) := by decide +kernel
theorem d_L_law_190 : decode code 190 = .ok (.iaload, 1) := by decide +kernel
theorem d_L_law_191 : decode code 191 = .ok (.aload_n 0, 1) := by decide +kernel
theorem d_L_law_192 : decode code 192 = .ok (.iload_n 3, 1) := by decide +kernel
theorem d_L_law_193 : decode code 193 = .ok (.iconst 3, 1) := by decide +kernel
theorem d_L_law_194 : decode code 194 = .ok (.iadd, 1) := by decide +kernel
theorem d_L_law_195 : decode code 195 = .ok (.iaload, 1) := by decide +kernel
theorem d_L_law_196 : decode code 196 = .ok (.invokevirtual 30, 3) := by decide +kernel
theorem d_L_law_199 : decode code 199 = .ok (.if_icmp .eq 354, 3) := by decide +kernel
theorem d_L_law_202 : decode code 202 = .ok (.iconst 0, 1) := by decide +kernel
theorem d_L_law_203 : decode code 203 = .ok (.ireturn, 1) := by decide +kernel
theorem d_L_law_204 : decode code 204 = .ok (.aload_n 1, 1) := by decide +kernel
theorem d_L_law_205 : decode code 205 = .ok (.aload_n 0, 1) := by decide +kernel
theorem d_L_law_206 : decode code 206 = .ok (.iload_n 3, 1) := by decide +kernel
theorem d_L_law_207 : decode code 207 = .ok (.iconst 1, 1) := by decide +kernel
theorem d_L_law_208 : decode code 208 = .ok (.iadd, 1) := by decide +kernel
theorem d_L_law_209 : decode code 209 = .ok (.iaload, 1) := by decide +kernel
theorem d_L_law_210 : decode code 210 = .ok (.aload_n 0, 1) := by decide +kernel
theorem d_L_law_211 : decode code 211 = .ok (.iload_n 3, 1) := by decide +kernel
theorem d_L_law_212 : decode code 212 = .ok (.iconst 2, 1) := by decide +kernel
theorem d_L_law_213 : decode code 213 = .ok (.iadd, 1) := by decide +kernel
theorem d_L_law_214 : decode code 214 = .ok (.iaload, 1) := by decide +kernel
theorem d_L_law_215 : decode code 215 = .ok (.aload_n 0, 1) := by decide +kernel
theorem d_L_law_216 : decode code 216 = .ok (.iload_n 3, 1) := by decide +kernel
theorem d_L_law_217 : decode code 217 = .ok (.iconst 3, 1) := by decide +kernel
theorem d_L_law_218 : decode code 218 = .ok (.iadd, 1) := by decide +kernel
theorem d_L_law_219 : decode code 219 = .ok (.iaload, 1) := by decide +kernel
theorem d_L_law_220 : decode code 220 = .ok (.aload_n 0, 1) := by decide +kernel
theorem d_L_law_221 : decode code 221 = .ok (.iload_n 3, 1) := by decide +kernel
theorem d_L_law_222 : decode code 222 = .ok (.iconst 4, 1) := by decide +kernel
theorem d_L_law_223 : decode code 223 = .ok (.iadd, 1) := by decide +kernel
theorem d_L_law_224 : decode code 224 = .ok (.iaload, 1) := by decide +kernel
theorem d_L_law_225 : decode code 225 = .ok (.invokevirtual 31, 3) := by decide +kernel
theorem d_L_law_228 : decode code 228 = .ok (.aload_n 2, 1) := by decide +kernel
theorem d_L_law_229 : decode code 229 = .ok (.aload_n 0, 1) := by decide +kernel
theorem d_L_law_230 : decode code 230 = .ok (.iload_n 3, 1) := by decide +kernel
theorem d_L_law_231 : decode code 231 = .ok (.iconst 1, 1) := by decide +kernel
theorem d_L_law_232 : decode code 232 = .ok (.iadd, 1) := by decide +kernel
theorem d_L_law_233 : decode code 233 = .ok (.iaload, 1) := by decide +kernel
theorem d_L_law_234 : decode code 234 = .ok (.aload_n 0, 1) := by decide +kernel
theorem d_L_law_235 : decode code 235 = .ok (.iload_n 3, 1) := by decide +kernel
theorem d_L_law_236 : decode code 236 = .ok (.iconst 2, 1) := by decide +kernel
theorem d_L_law_237 : decode code 237 = .ok (.iadd, 1) := by decide +kernel
theorem d_L_law_238 : decode code 238 = .ok (.iaload, 1) := by decide +kernel
theorem d_L_law_239 : decode code 239 = .ok (.aload_n 0, 1) := by decide +kernel
theorem d_L_law_240 : decode code 240 = .ok (.iload_n 3, 1) := by decide +kernel
theorem d_L_law_241 : decode code 241 = .ok (.iconst 3, 1) := by decide +kernel
theorem d_L_law_242 : decode code 242 = .ok (.iadd, 1) := by decide +kernel
theorem d_L_law_243 : decode code 243 = .ok (.iaload, 1) := by decide +kernel
theorem d_L_law_244 : decode code 244 = .ok (.aload_n 0, 1) := by decide +kernel
theorem d_L_law_245 : decode code 245 = .ok (.iload_n 3, 1) := by decide +kernel
theorem d_L_law_246 : decode code 246 = .ok (.iconst 4, 1) := by decide +kernel
theorem d_L_law_247 : decode code 247 = .ok (.iadd, 1) := by decide +kernel
theorem d_L_law_248 : decode code 248 = .ok (.iaload, 1) := by decide +kernel
theorem d_L_law_249 : decode code 249 = .ok (.invokevirtual 35, 3) := by decide +kernel
theorem d_L_law_252 : decode code 252 = .ok (.if_icmp .eq 301, 3) := by decide +kernel
theorem d_L_law_255 : decode code 255 = .ok (.iconst 0, 1) := by decide +kernel
theorem d_L_law_256 : decode code 256 = .ok (.ireturn, 1) := by decide +kernel
end
section
theorem d_L_law_257 : decode code 257 = .ok (.aload_n 1, 1) := by decide +kernel
theorem d_L_law_258 : decode code 258 = .ok (.aload_n 0, 1) := by decide +kernel
theorem d_L_law_259 : decode code 259 = .ok (.iload_n 3, 1) := by decide +kernel
theorem d_L_law_260 : decode code 260 = .ok (.iconst 1, 1) := by decide +kernel
theorem d_L_law_261 : decode code 261 = .ok (.iadd, 1) := by decide +kernel
theorem d_L_law_262 : decode code 262 = .ok (.iaload, 1) := by decide +kernel
theorem d_L_law_263 : decode code 263 = .ok (.aload_n 0, 1) := by decide +kernel
theorem d_L_law_264 : decode code 264 = .ok (.iload_n 3, 1) := by decide +kernel
theorem d_L_law_265 : decode code 265 = .ok (.iconst 2, 1) := by decide +kernel
theorem d_L_law_266 : decode code 266 = .ok (.iadd, 1) := by decide +kernel
theorem d_L_law_267 : decode code 267 = .ok (.iaload, 1) := by decide +kernel
theorem d_L_law_268 : decode code 268 = .ok (.invokevirtual 36, 3) := by decide +kernel
theorem d_L_law_271 : decode code 271 = .ok (.aload_n 2, 1) := by decide +kernel
theorem d_L_law_272 : decode code 272 = .ok (.aload_n 0, 1) := by decide +kernel
theorem d_L_law_273 : decode code 273 = .ok (.iload_n 3, 1) := by decide +kernel
theorem d_L_law_274 : decode code 274 = .ok (.iconst 1, 1) := by decide +kernel
theorem d_L_law_275 : decode code 275 = .ok (.iadd, 1) := by decide +kernel
theorem d_L_law_276 : decode code 276 = .ok (.iaload, 1) := by decide +kernel
theorem d_L_law_277 : decode code 277 = .ok (.aload_n 0, 1) := by decide +kernel
theorem d_L_law_278 : decode code 278 = .ok (.iload_n 3, 1) := by decide +kernel
theorem d_L_law_279 : decode code 279 = .ok (.iconst 2, 1) := by decide +kernel
theorem d_L_law_280 : decode code 280 = .ok (.iadd, 1) := by decide +kernel
theorem d_L_law_281 : decode code 281 = .ok (.iaload, 1) := by decide +kernel
theorem d_L_law_282 : decode code 282 = .ok (.invokevirtual 39, 3) := by decide +kernel
theorem d_L_law_285 : decode code 285 = .ok (.if_icmp .eq 268, 3) := by decide +kernel
theorem d_L_law_288 : decode code 288 = .ok (.iconst 0, 1) := by decide +kernel
theorem d_L_law_289 : decode code 289 = .ok (.ireturn, 1) := by decide +kernel
theorem d_L_law_290 : decode code 290 = .ok (.aload_n 1, 1) := by decide +kernel
theorem d_L_law_291 : decode code 291 = .ok (.aload_n 0, 1) := by decide +kernel
theorem d_L_law_292 : decode code 292 = .ok (.iload_n 3, 1) := by decide +kernel
theorem d_L_law_293 : decode code 293 = .ok (.iconst 1, 1) := by decide +kernel
theorem d_L_law_294 : decode code 294 = .ok (.iadd, 1) := by decide +kernel
theorem d_L_law_295 : decode code 295 = .ok (.iaload, 1) := by decide +kernel
theorem d_L_law_296 : decode code 296 = .ok (.aload_n 0, 1) := by decide +kernel
theorem d_L_law_297 : decode code 297 = .ok (.iload_n 3, 1) := by decide +kernel
theorem d_L_law_298 : decode code 298 = .ok (.iconst 2, 1) := by decide +kernel
theorem d_L_law_299 : decode code 299 = .ok (.iadd, 1) := by decide +kernel
theorem d_L_law_300 : decode code 300 = .ok (.iaload, 1) := by decide +kernel
theorem d_L_law_301 : decode code 301 = .ok (.invokevirtual 40, 3) := by decide +kernel
theorem d_L_law_304 : decode code 304 = .ok (.aload_n 2, 1) := by decide +kernel
theorem d_L_law_305 : decode code 305 = .ok (.aload_n 0, 1) := by decide +kernel
theorem d_L_law_306 : decode code 306 = .ok (.iload_n 3, 1) := by decide +kernel
theorem d_L_law_307 : decode code 307 = .ok (.iconst 1, 1) := by decide +kernel
theorem d_L_law_308 : decode code 308 = .ok (.iadd, 1) := by decide +kernel
theorem d_L_law_309 : decode code 309 = .ok (.iaload, 1) := by decide +kernel
theorem d_L_law_310 : decode code 310 = .ok (.aload_n 0, 1) := by decide +kernel
theorem d_L_law_311 : decode code 311 = .ok (.iload_n 3, 1) := by decide +kernel
theorem d_L_law_312 : decode code 312 = .ok (.iconst 2, 1) := by decide +kernel
theorem d_L_law_313 : decode code 313 = .ok (.iadd, 1) := by decide +kernel
theorem d_L_law_314 : decode code 314 = .ok (.iaload, 1) := by decide +kernel
theorem d_L_law_315 : decode code 315 = .ok (.invokevirtual 44, 3) := by decide +kernel
theorem d_L_law_318 : decode code 318 = .ok (.if_icmp .eq 235, 3) := by decide +kernel
theorem d_L_law_321 : decode code 321 = .ok (.iconst 0, 1) := by decide +kernel
theorem d_L_law_322 : decode code 322 = .ok (.ireturn, 1) := by decide +kernel
theorem d_L_law_323 : decode code 323 = .ok (.aload_n 1, 1) := by decide +kernel
theorem d_L_law_324 : decode code 324 = .ok (.aload_n 0, 1) := by decide +kernel
theorem d_L_law_325 : decode code 325 = .ok (.iload_n 3, 1) := by decide +kernel
theorem d_L_law_326 : decode code 326 = .ok (.iconst 1, 1) := by decide +kernel
theorem d_L_law_327 : decode code 327 = .ok (.iadd, 1) := by decide +kernel
theorem d_L_law_328 : decode code 328 = .ok (.iaload, 1) := by decide +kernel
theorem d_L_law_329 : decode code 329 = .ok (.invokevirtual 45, 3) := by decide +kernel
theorem d_L_law_332 : decode code 332 = .ok (.aload_n 2, 1) := by decide +kernel
theorem d_L_law_333 : decode code 333 = .ok (.aload_n 0, 1) := by decide +kernel
theorem d_L_law_334 : decode code 334 = .ok (.iload_n 3, 1) := by decide +kernel
theorem d_L_law_335 : decode code 335 = .ok (.iconst 1, 1) := by decide +kernel
theorem d_L_law_336 : decode code 336 = .ok (.iadd, 1) := by decide +kernel
theorem d_L_law_337 : decode code 337 = .ok (.iaload, 1) := by decide +kernel
theorem d_L_law_338 : decode code 338 = .ok (.invokevirtual 49, 3) := by decide +kernel
theorem d_L_law_341 : decode code 341 = .ok (.if_icmp .eq 212, 3) := by decide +kernel
theorem d_L_law_344 : decode code 344 = .ok (.iconst 0, 1) := by decide +kernel
theorem d_L_law_345 : decode code 345 = .ok (.ireturn, 1) := by decide +kernel
theorem d_L_law_346 : decode code 346 = .ok (.aload_n 1, 1) := by decide +kernel
theorem d_L_law_347 : decode code 347 = .ok (.invokevirtual 50, 3) := by decide +kernel
theorem d_L_law_350 : decode code 350 = .ok (.aload_n 2, 1) := by decide +kernel
theorem d_L_law_351 : decode code 351 = .ok (.invokevirtual 54, 3) := by decide +kernel
theorem d_L_law_354 : decode code 354 = .ok (.if_icmp .eq 199, 3) := by decide +kernel
theorem d_L_law_357 : decode code 357 = .ok (.iconst 0, 1) := by decide +kernel
theorem d_L_law_358 : decode code 358 = .ok (.ireturn, 1) := by decide +kernel
theorem d_L_law_359 : decode code 359 = .ok (.aload_n 1, 1) := by decide +kernel
theorem d_L_law_360 : decode code 360 = .ok (.aload_n 0, 1) := by decide +kernel
theorem d_L_law_361 : decode code 361 = .ok (.iload_n 3, 1) := by decide +kernel
theorem d_L_law_362 : decode code 362 = .ok (.iconst 1, 1) := by decide +kernel
theorem d_L_law_363 : decode code 363 = .ok (.iadd, 1) := by decide +kernel
theorem d_L_law_364 : decode code 364 = .ok (.iaload, 1) := by decide +kernel
theorem d_L_law_365 : decode code 365 = .ok (.aload_n 0, 1) := by decide +kernel
theorem d_L_law_366 : decode code 366 = .ok (.iload_n 3, 1) := by decide +kernel
theorem d_L_law_367 : decode code 367 = .ok (.iconst 2, 1) := by decide +kernel
theorem d_L_law_368 : decode code 368 = .ok (.iadd, 1) := by decide +kernel
theorem d_L_law_369 : decode code 369 = .ok (.iaload, 1) := by decide +kernel
theorem d_L_law_370 : decode code 370 = .ok (.invokevirtual 55, 3) := by decide +kernel
theorem d_L_law_373 : decode code 373 = .ok (.aload_n 2, 1) := by decide +kernel
theorem d_L_law_374 : decode code 374 = .ok (.aload_n 0, 1) := by decide +kernel
theorem d_L_law_375 : decode code 375 = .ok (.iload_n 3, 1) := by decide +kernel
theorem d_L_law_376 : decode code 376 = .ok (.iconst 1, 1) := by decide +kernel
theorem d_L_law_377 : decode code 377 = .ok (.iadd, 1) := by decide +kernel
theorem d_L_law_378 : decode code 378 = .ok (.iaload, 1) := by decide +kernel
theorem d_L_law_379 : decode code 379 = .ok (.aload_n 0, 1) := by decide +kernel
theorem d_L_law_380 : decode code 380 = .ok (.iload_n 3, 1) := by decide +kernel
theorem d_L_law_381 : decode code 381 = .ok (.iconst 2, 1) := by decide +kernel
theorem d_L_law_382 : decode code 382 = .ok (.iadd, 1) := by decide +kernel
theorem d_L_law_383 : decode code 383 = .ok (.iaload, 1) := by decide +kernel
theorem d_L_law_384 : decode code 384 = .ok (.invokevirtual 58, 3) := by decide +kernel
theorem d_L_law_387 : decode code 387 = .ok (.if_icmp .eq 166, 3) := by decide +kernel
theorem d_L_law_390 : decode code 390 = .ok (.iconst 0, 1) := by decide +kernel
theorem d_L_law_391 : decode code 391 = .ok (.ireturn, 1) := by decide +kernel
theorem d_L_law_392 : decode code 392 = .ok (.aload_n 1, 1) := by decide +kernel
theorem d_L_law_393 : decode code 393 = .ok (.aload_n 0, 1) := by decide +kernel
theorem d_L_law_394 : decode code 394 = .ok (.iload_n 3, 1) := by decide +kernel
theorem d_L_law_395 : decode code 395 = .ok (.iconst 1, 1) := by decide +kernel
theorem d_L_law_396 : decode code 396 = .ok (.iadd, 1) := by decide +kernel
theorem d_L_law_397 : decode code 397 = .ok (.iaload, 1) := by decide +kernel
theorem d_L_law_398 : decode code 398 = .ok (.aload_n 0, 1) := by decide +kernel
theorem d_L_law_399 : decode code 399 = .ok (.iload_n 3, 1) := by decide +kernel
theorem d_L_law_400 : decode code 400 = .ok (.iconst 2, 1) := by decide +kernel
theorem d_L_law_401 : decode code 401 = .ok (.iadd, 1) := by decide +kernel
theorem d_L_law_402 : decode code 402 = .ok (.iaload, 1) := by decide +kernel
theorem d_L_law_403 : decode code 403 = .ok (.invokevirtual 59, 3) := by decide +kernel
theorem d_L_law_406 : decode code 406 = .ok (.aload_n 2, 1) := by decide +kernel
theorem d_L_law_407 : decode code 407 = .ok (.aload_n 0, 1) := by decide +kernel
theorem d_L_law_408 : decode code 408 = .ok (.iload_n 3, 1) := by decide +kernel
theorem d_L_law_409 : decode code 409 = .ok (.iconst 1, 1) := by decide +kernel
theorem d_L_law_410 : decode code 410 = .ok (.iadd, 1) := by decide +kernel
theorem d_L_law_411 : decode code 411 = .ok (.iaload, 1) := by decide +kernel
theorem d_L_law_412 : decode code 412 = .ok (.aload_n 0, 1) := by decide +kernel
theorem d_L_law_413 : decode code 413 = .ok (.iload_n 3, 1) := by decide +kernel
theorem d_L_law_414 : decode code 414 = .ok (.iconst 2, 1) := by decide +kernel
theorem d_L_law_415 : decode code 415 = .ok (.iadd, 1) := by decide +kernel
theorem d_L_law_416 : decode code 416 = .ok (.iaload, 1) := by decide +kernel
theorem d_L_law_417 : decode code 417 = .ok (.invokevirtual 62, 3) := by decide +kernel
theorem d_L_law_420 : decode code 420 = .ok (.if_icmp .eq 133, 3) := by decide +kernel
theorem d_L_law_423 : decode code 423 = .ok (.iconst 0, 1) := by decide +kernel
theorem d_L_law_424 : decode code 424 = .ok (.ireturn, 1) := by decide +kernel
theorem d_L_law_425 : decode code 425 = .ok (.aload_n 1, 1) := by decide +kernel
theorem d_L_law_426 : decode code 426 = .ok (.invokevirtual 63, 3) := by decide +kernel
theorem d_L_law_429 : decode code 429 = .ok (.aload_n 2, 1) := by decide +kernel
theorem d_L_law_430 : decode code 430 = .ok (.invokevirtual 66, 3) := by decide +kernel
theorem d_L_law_433 : decode code 433 = .ok (.if_icmp .eq 120, 3) := by decide +kernel
theorem d_L_law_436 : decode code 436 = .ok (.iconst 0, 1) := by decide +kernel
theorem d_L_law_437 : decode code 437 = .ok (.ireturn, 1) := by decide +kernel
theorem d_L_law_438 : decode code 438 = .ok (.aload_n 1, 1) := by decide +kernel
theorem d_L_law_439 : decode code 439 = .ok (.aload_n 0, 1) := by decide +kernel
theorem d_L_law_440 : decode code 440 = .ok (.iload_n 3, 1) := by decide +kernel
theorem d_L_law_441 : decode code 441 = .ok (.iconst 1, 1) := by decide +kernel
theorem d_L_law_442 : decode code 442 = .ok (.iadd, 1) := by decide +kernel
theorem d_L_law_443 : decode code 443 = .ok (.iaload, 1) := by decide +kernel
theorem d_L_law_444 : decode code 444 = .ok (.invokevirtual 67, 3) := by decide +kernel
theorem d_L_law_447 : decode code 447 = .ok (.aload_n 2, 1) := by decide +kernel
theorem d_L_law_448 : decode code 448 = .ok (.aload_n 0, 1) := by decide +kernel
theorem d_L_law_449 : decode code 449 = .ok (.iload_n 3, 1) := by decide +kernel
theorem d_L_law_450 : decode code 450 = .ok (.iconst 1, 1) := by decide +kernel
theorem d_L_law_451 : decode code 451 = .ok (.iadd, 1) := by decide +kernel
theorem d_L_law_452 : decode code 452 = .ok (.iaload, 1) := by decide +kernel
theorem d_L_law_453 : decode code 453 = .ok (.invokevirtual 71, 3) := by decide +kernel
theorem d_L_law_456 : decode code 456 = .ok (.if_icmp .eq 97, 3) := by decide +kernel
theorem d_L_law_459 : decode code 459 = .ok (.iconst 0, 1) := by decide +kernel
theorem d_L_law_460 : decode code 460 = .ok (.ireturn, 1) := by decide +kernel
theorem d_L_law_461 : decode code 461 = .ok (.aload_n 1, 1) := by decide +kernel
theorem d_L_law_462 : decode code 462 = .ok (.invokevirtual 72, 3) := by decide +kernel
theorem d_L_law_465 : decode code 465 = .ok (.aload_n 2, 1) := by decide +kernel
theorem d_L_law_466 : decode code 466 = .ok (.invokevirtual 75, 3) := by decide +kernel
theorem d_L_law_469 : decode code 469 = .ok (.if_icmp .eq 84, 3) := by decide +kernel
theorem d_L_law_472 : decode code 472 = .ok (.iconst 0, 1) := by decide +kernel
theorem d_L_law_473 : decode code 473 = .ok (.ireturn, 1) := by decide +kernel
theorem d_L_law_474 : decode code 474 = .ok (.aload_n 1, 1) := by decide +kernel
theorem d_L_law_475 : decode code 475 = .ok (.aload_n 0, 1) := by decide +kernel
theorem d_L_law_476 : decode code 476 = .ok (.iload_n 3, 1) := by decide +kernel
theorem d_L_law_477 : decode code 477 = .ok (.iconst 1, 1) := by decide +kernel
theorem d_L_law_478 : decode code 478 = .ok (.iadd, 1) := by decide +kernel
theorem d_L_law_479 : decode code 479 = .ok (.iaload, 1) := by decide +kernel
theorem d_L_law_480 : decode code 480 = .ok (.invokevirtual 76, 3) := by decide +kernel
theorem d_L_law_483 : decode code 483 = .ok (.aload_n 2, 1) := by decide +kernel
theorem d_L_law_484 : decode code 484 = .ok (.aload_n 0, 1) := by decide +kernel
theorem d_L_law_485 : decode code 485 = .ok (.iload_n 3, 1) := by decide +kernel
theorem d_L_law_486 : decode code 486 = .ok (.iconst 1, 1) := by decide +kernel
theorem d_L_law_487 : decode code 487 = .ok (.iadd, 1) := by decide +kernel
theorem d_L_law_488 : decode code 488 = .ok (.iaload, 1) := by decide +kernel
theorem d_L_law_489 : decode code 489 = .ok (.invokevirtual 79, 3) := by decide +kernel
theorem d_L_law_492 : decode code 492 = .ok (.if_icmp .eq 61, 3) := by decide +kernel
theorem d_L_law_495 : decode code 495 = .ok (.iconst 0, 1) := by decide +kernel
theorem d_L_law_496 : decode code 496 = .ok (.ireturn, 1) := by decide +kernel
theorem d_L_law_497 : decode code 497 = .ok (.aload_n 1, 1) := by decide +kernel
theorem d_L_law_498 : decode code 498 = .ok (.aload_n 0, 1) := by decide +kernel
theorem d_L_law_499 : decode code 499 = .ok (.iload_n 3, 1) := by decide +kernel
theorem d_L_law_500 : decode code 500 = .ok (.iconst 1, 1) := by decide +kernel
theorem d_L_law_501 : decode code 501 = .ok (.iadd, 1) := by decide +kernel
theorem d_L_law_502 : decode code 502 = .ok (.iaload, 1) := by decide +kernel
theorem d_L_law_503 : decode code 503 = .ok (.invokevirtual 80, 3) := by decide +kernel
theorem d_L_law_506 : decode code 506 = .ok (.aload_n 2, 1) := by decide +kernel
theorem d_L_law_507 : decode code 507 = .ok (.aload_n 0, 1) := by decide +kernel
theorem d_L_law_508 : decode code 508 = .ok (.iload_n 3, 1) := by decide +kernel
theorem d_L_law_509 : decode code 509 = .ok (.iconst 1, 1) := by decide +kernel
theorem d_L_law_510 : decode code 510 = .ok (.iadd, 1) := by decide +kernel
theorem d_L_law_511 : decode code 511 = .ok (.iaload, 1) := by decide +kernel
theorem d_L_law_512 : decode code 512 = .ok (.invokevirtual 83, 3) := by decide +kernel
theorem d_L_law_515 : decode code 515 = .ok (.if_icmp .eq 38, 3) := by decide +kernel
theorem d_L_law_518 : decode code 518 = .ok (.iconst 0, 1) := by decide +kernel
theorem d_L_law_519 : decode code 519 = .ok (.ireturn, 1) := by decide +kernel
theorem d_L_law_520 : decode code 520 = .ok (.aload_n 1, 1) := by decide +kernel
theorem d_L_law_521 : decode code 521 = .ok (.aload_n 0, 1) := by decide +kernel
theorem d_L_law_522 : decode code 522 = .ok (.iload_n 3, 1) := by decide +kernel
theorem d_L_law_523 : decode code 523 = .ok (.iconst 1, 1) := by decide +kernel
theorem d_L_law_524 : decode code 524 = .ok (.iadd, 1) := by decide +kernel
theorem d_L_law_525 : decode code 525 = .ok (.iaload, 1) := by decide +kernel
theorem d_L_law_526 : decode code 526 = .ok (.aload_n 0, 1) := by decide +kernel
theorem d_L_law_527 : decode code 527 = .ok (.iload_n 3, 1) := by decide +kernel
theorem d_L_law_528 : decode code 528 = .ok (.iconst 2, 1) := by decide +kernel
theorem d_L_law_529 : decode code 529 = .ok (.iadd, 1) := by decide +kernel
theorem d_L_law_530 : decode code 530 = .ok (.iaload, 1) := by decide +kernel
theorem d_L_law_531 : decode code 531 = .ok (.invokevirtual 84, 3) := by decide +kernel
theorem d_L_law_534 : decode code 534 = .ok (.aload_n 2, 1) := by decide +kernel
theorem d_L_law_535 : decode code 535 = .ok (.aload_n 0, 1) := by decide +kernel
theorem d_L_law_536 : decode code 536 = .ok (.iload_n 3, 1) := by decide +kernel
theorem d_L_law_537 : decode code 537 = .ok (.iconst 1, 1) := by decide +kernel
theorem d_L_law_538 : decode code 538 = .ok (.iadd, 1) := by decide +kernel
theorem d_L_law_539 : decode code 539 = .ok (.iaload, 1) := by decide +kernel
theorem d_L_law_540 : decode code 540 = .ok (.aload_n 0, 1) := by decide +kernel
theorem d_L_law_541 : decode code 541 = .ok (.iload_n 3, 1) := by decide +kernel
theorem d_L_law_542 : decode code 542 = .ok (.iconst 2, 1) := by decide +kernel
theorem d_L_law_543 : decode code 543 = .ok (.iadd, 1) := by decide +kernel
theorem d_L_law_544 : decode code 544 = .ok (.iaload, 1) := by decide +kernel
theorem d_L_law_545 : decode code 545 = .ok (.invokevirtual 87, 3) := by decide +kernel
theorem d_L_law_548 : decode code 548 = .ok (.if_icmp .eq 5, 3) := by decide +kernel
theorem d_L_law_551 : decode code 551 = .ok (.iconst 0, 1) := by decide +kernel
theorem d_L_law_552 : decode code 552 = .ok (.ireturn, 1) := by decide +kernel
theorem d_L_law_553 : decode code 553 = .ok (.iinc 3 5, 3) := by decide +kernel
theorem d_L_law_556 : decode code 556 = .ok (.goto (-518), 3) := by decide +kernel
theorem d_L_law_559 : decode code 559 = .ok (.iconst 1, 1) := by decide +kernel
theorem d_L_law_560 : decode code 560 = .ok (.ireturn, 1) := by decide +kernel
end
section
set_option maxHeartbeats 4000000 in
set_option maxRecDepth 100000 in
theorem lw_case_0 {l : Launch} {D : va_G} {h h2 : Nat → Nat} {cs c2 : Nat → ClassId} {K : Kc} (C : Kok D (tysX cs ++ tysM c2) K code 4 R_law 9) {b L : Nat} {xs : Nat → Int32} (hX : va_X b L xs K.1.2.2.2 K.1.2.2.2.heap) (hbl : b < K.1.2.2.2.heap.size) (hbA : ¬ K.2.2.1 b) (hL : L ≤ 2562) {i : Nat} (hi : i + 4 < L) {cp : Nat} {cap : Int} {pr fb pn be : Nat} {N : Nat → Nat → Nat} {fu : Nat} {fd : Int} {mb : Nat} {M : Nat → Nat → Nat} {B : Nat → Int} (hfb : fb ≤ 60) (hmb : mb ≤ 60) (hr : REL cp cap pr N M) (kk : ∀ pr fb pn be N fu fd mb M B, fb ≤ 60 → mb ≤ 60 → REL cp cap pr N M → J l D K (wL h cs h2 c2) ((cp, cap, pr, (-1), fb, pn, be, N), (cp, cap, fu, fd, (-1), mb, M, B)) 553 [.ref b, .ref (h 0), .ref (h2 0), .int (nI i)] []) : J l D K (wL h cs h2 c2) ((cp, cap, pr, (-1), fb, pn, be, N), (cp, cap, fu, fd, (-1), mb, M, B)) 128 [.ref b, .ref (h 0), .ref (h2 0), .int (nI i)] [] := by
  obtain ⟨⟨x1, x2, x3, x4, x5, x6, x7, x8, ⟨rk, x9⟩, x10⟩, hM, hR, hS⟩ := id hr
  refine j_aload_n C d_L_law_128 (a := h 0) rfl ?_
  refine j_aload_n C d_L_law_129 (a := b) rfl ?_
  refine j_iload_n C d_L_law_130 (x := nI i) rfl ?_
  refine j_iconst C d_L_law_131 (v := nI 1) (by decide) ?_
  refine j_iadd C d_L_law_132 (z := nI (i + 1)) (nI_add _ _) ?_
  refine j_sld C hX hbl hbA (i := i + 1) d_L_law_133 (by omega) (by omega) ?_
  refine j_aload_n C d_L_law_134 (a := b) rfl ?_
  refine j_iload_n C d_L_law_135 (x := nI i) rfl ?_
  refine j_iconst C d_L_law_136 (v := nI 2) (by decide) ?_
  refine j_iadd C d_L_law_137 (z := nI (i + 2)) (nI_add _ _) ?_
  refine j_sld C hX hbl hbA (i := i + 2) d_L_law_138 (by omega) (by omega) ?_
  refine jl_callX C (c_X_add l D h cs (rk := rk) x1.2 x3 x5 x7 x9 (by decide) hfb x2 x8 (xs (i + 1)) (xs (i + 2))) (As := [.int (xs (i + 1)), .int (xs (i + 2))]) (rest := []) ok_X_add ml_L_21 (by decide) d_L_law_139 rfl rfl rfl (Nat.le_of_ble_eq_true rfl) ?_
  intro r1 u1 hq
  obtain ⟨pr1, N1, pn1, be1, rd1, pd1, rfl, hE1⟩ := hq
  refine j_aload_n C d_L_law_142 (a := h2 0) rfl ?_
  refine j_aload_n C d_L_law_143 (a := b) rfl ?_
  refine j_iload_n C d_L_law_144 (x := nI i) rfl ?_
  refine j_iconst C d_L_law_145 (v := nI 1) (by decide) ?_
  refine j_iadd C d_L_law_146 (z := nI (i + 1)) (nI_add _ _) ?_
  refine j_sld C hX hbl hbA (i := i + 1) d_L_law_147 (by omega) (by omega) ?_
  refine j_aload_n C d_L_law_148 (a := b) rfl ?_
  refine j_iload_n C d_L_law_149 (x := nI i) rfl ?_
  refine j_iconst C d_L_law_150 (v := nI 2) (by decide) ?_
  refine j_iadd C d_L_law_151 (z := nI (i + 2)) (nI_add _ _) ?_
  refine j_sld C hX hbl hbA (i := i + 2) d_L_law_152 (by omega) (by omega) ?_
  refine jl_callM C (c_M_add l D h2 c2 x1.2 x3 hM (by decide) hmb x2 (xs (i + 1)) (xs (i + 2))) (As := [.int (xs (i + 1)), .int (xs (i + 2))]) (rest := [.int (r1)]) ok_M_add ml_L_25 (by decide) d_L_law_153 rfl rfl rfl (Nat.le_of_ble_eq_true rfl) ?_
  intro r2 u2 hq2
  obtain ⟨pr2, M1, fu1, fd1, B1, rfl, hE2⟩ := hq2
  obtain ⟨heq, hr'⟩ := op_add hr hE1 hE2
  refine j_icmp_eq C d_L_law_156 (tgt := 553) (by decide) rfl rfl (fun _ => ?_) (fun c => absurd (congrArg Int32.toInt heq) c)
  exact kk pr1 fb pn1 be1 (sc N1 rd1 pd1) fu1 fd1 mb M1 B1 hfb hmb hr'
set_option maxHeartbeats 4000000 in
set_option maxRecDepth 100000 in
theorem lw_case_1 {l : Launch} {D : va_G} {h h2 : Nat → Nat} {cs c2 : Nat → ClassId} {K : Kc} (C : Kok D (tysX cs ++ tysM c2) K code 4 R_law 9) {b L : Nat} {xs : Nat → Int32} (hX : va_X b L xs K.1.2.2.2 K.1.2.2.2.heap) (hbl : b < K.1.2.2.2.heap.size) (hbA : ¬ K.2.2.1 b) (hL : L ≤ 2562) {i : Nat} (hi : i + 4 < L) {cp : Nat} {cap : Int} {pr fb pn be : Nat} {N : Nat → Nat → Nat} {fu : Nat} {fd : Int} {mb : Nat} {M : Nat → Nat → Nat} {B : Nat → Int} (hfb : fb ≤ 60) (hmb : mb ≤ 60) (hr : REL cp cap pr N M) (kk : ∀ pr fb pn be N fu fd mb M B, fb ≤ 60 → mb ≤ 60 → REL cp cap pr N M → J l D K (wL h cs h2 c2) ((cp, cap, pr, (-1), fb, pn, be, N), (cp, cap, fu, fd, (-1), mb, M, B)) 553 [.ref b, .ref (h 0), .ref (h2 0), .int (nI i)] []) : J l D K (wL h cs h2 c2) ((cp, cap, pr, (-1), fb, pn, be, N), (cp, cap, fu, fd, (-1), mb, M, B)) 161 [.ref b, .ref (h 0), .ref (h2 0), .int (nI i)] [] := by
  obtain ⟨⟨x1, x2, x3, x4, x5, x6, x7, x8, ⟨rk, x9⟩, x10⟩, hM, hR, hS⟩ := id hr
  refine j_aload_n C d_L_law_161 (a := h 0) rfl ?_
  refine j_aload_n C d_L_law_162 (a := b) rfl ?_
  refine j_iload_n C d_L_law_163 (x := nI i) rfl ?_
  refine j_iconst C d_L_law_164 (v := nI 1) (by decide) ?_
  refine j_iadd C d_L_law_165 (z := nI (i + 1)) (nI_add _ _) ?_
  refine j_sld C hX hbl hbA (i := i + 1) d_L_law_166 (by omega) (by omega) ?_
  refine j_aload_n C d_L_law_167 (a := b) rfl ?_
  refine j_iload_n C d_L_law_168 (x := nI i) rfl ?_
  refine j_iconst C d_L_law_169 (v := nI 2) (by decide) ?_
  refine j_iadd C d_L_law_170 (z := nI (i + 2)) (nI_add _ _) ?_
  refine j_sld C hX hbl hbA (i := i + 2) d_L_law_171 (by omega) (by omega) ?_
  refine j_aload_n C d_L_law_172 (a := b) rfl ?_
  refine j_iload_n C d_L_law_173 (x := nI i) rfl ?_
  refine j_iconst C d_L_law_174 (v := nI 3) (by decide) ?_
  refine j_iadd C d_L_law_175 (z := nI (i + 3)) (nI_add _ _) ?_
  refine j_sld C hX hbl hbA (i := i + 3) d_L_law_176 (by omega) (by omega) ?_
  refine jl_callX C (c_X_addRuled l D h cs (rk := rk) x1.2 x3 x5 x7 x9 (by decide) hfb x2 x8 (xs (i + 1)) (xs (i + 2)) (xs (i + 3))) (As := [.int (xs (i + 1)), .int (xs (i + 2)), .int (xs (i + 3))]) (rest := []) ok_X_addRuled ml_L_26 (by decide) d_L_law_177 rfl rfl rfl (Nat.le_of_ble_eq_true rfl) ?_
  intro r1 u1 hq
  obtain ⟨pr1, N1, pn1, be1, rd1, pd1, rfl, hE1⟩ := hq
  refine j_aload_n C d_L_law_180 (a := h2 0) rfl ?_
  refine j_aload_n C d_L_law_181 (a := b) rfl ?_
  refine j_iload_n C d_L_law_182 (x := nI i) rfl ?_
  refine j_iconst C d_L_law_183 (v := nI 1) (by decide) ?_
  refine j_iadd C d_L_law_184 (z := nI (i + 1)) (nI_add _ _) ?_
  refine j_sld C hX hbl hbA (i := i + 1) d_L_law_185 (by omega) (by omega) ?_
  refine j_aload_n C d_L_law_186 (a := b) rfl ?_
  refine j_iload_n C d_L_law_187 (x := nI i) rfl ?_
  refine j_iconst C d_L_law_188 (v := nI 2) (by decide) ?_
  refine j_iadd C d_L_law_189 (z := nI (i + 2)) (nI_add _ _) ?_
  refine j_sld C hX hbl hbA (i := i + 2) d_L_law_190 (by omega) (by omega) ?_
  refine j_aload_n C d_L_law_191 (a := b) rfl ?_
  refine j_iload_n C d_L_law_192 (x := nI i) rfl ?_
  refine j_iconst C d_L_law_193 (v := nI 3) (by decide) ?_
  refine j_iadd C d_L_law_194 (z := nI (i + 3)) (nI_add _ _) ?_
  refine j_sld C hX hbl hbA (i := i + 3) d_L_law_195 (by omega) (by omega) ?_
  refine jl_callM C (c_M_addRuled l D h2 c2 x1.2 x3 hM (by decide) hmb x2 (xs (i + 1)) (xs (i + 2)) (xs (i + 3))) (As := [.int (xs (i + 1)), .int (xs (i + 2)), .int (xs (i + 3))]) (rest := [.int (r1)]) ok_M_addRuled ml_L_30 (by decide) d_L_law_196 rfl rfl rfl (Nat.le_of_ble_eq_true rfl) ?_
  intro r2 u2 hq2
  obtain ⟨pr2, M1, fu1, fd1, B1, rfl, hE2⟩ := hq2
  obtain ⟨heq, hr'⟩ := op_addR hr hE1 hE2
  refine j_icmp_eq C d_L_law_199 (tgt := 553) (by decide) rfl rfl (fun _ => ?_) (fun c => absurd (congrArg Int32.toInt heq) c)
  exact kk pr1 fb pn1 be1 (sc N1 rd1 pd1) fu1 fd1 mb M1 B1 hfb hmb hr'
set_option maxHeartbeats 4000000 in
set_option maxRecDepth 100000 in
theorem lw_case_2 {l : Launch} {D : va_G} {h h2 : Nat → Nat} {cs c2 : Nat → ClassId} {K : Kc} (C : Kok D (tysX cs ++ tysM c2) K code 4 R_law 9) {b L : Nat} {xs : Nat → Int32} (hX : va_X b L xs K.1.2.2.2 K.1.2.2.2.heap) (hbl : b < K.1.2.2.2.heap.size) (hbA : ¬ K.2.2.1 b) (hL : L ≤ 2562) {i : Nat} (hi : i + 4 < L) {cp : Nat} {cap : Int} {pr fb pn be : Nat} {N : Nat → Nat → Nat} {fu : Nat} {fd : Int} {mb : Nat} {M : Nat → Nat → Nat} {B : Nat → Int} (hfb : fb ≤ 60) (hmb : mb ≤ 60) (hr : REL cp cap pr N M) (kk : ∀ pr fb pn be N fu fd mb M B, fb ≤ 60 → mb ≤ 60 → REL cp cap pr N M → J l D K (wL h cs h2 c2) ((cp, cap, pr, (-1), fb, pn, be, N), (cp, cap, fu, fd, (-1), mb, M, B)) 553 [.ref b, .ref (h 0), .ref (h2 0), .int (nI i)] []) : J l D K (wL h cs h2 c2) ((cp, cap, pr, (-1), fb, pn, be, N), (cp, cap, fu, fd, (-1), mb, M, B)) 204 [.ref b, .ref (h 0), .ref (h2 0), .int (nI i)] [] := by
  obtain ⟨⟨x1, x2, x3, x4, x5, x6, x7, x8, ⟨rk, x9⟩, x10⟩, hM, hR, hS⟩ := id hr
  refine j_aload_n C d_L_law_204 (a := h 0) rfl ?_
  refine j_aload_n C d_L_law_205 (a := b) rfl ?_
  refine j_iload_n C d_L_law_206 (x := nI i) rfl ?_
  refine j_iconst C d_L_law_207 (v := nI 1) (by decide) ?_
  refine j_iadd C d_L_law_208 (z := nI (i + 1)) (nI_add _ _) ?_
  refine j_sld C hX hbl hbA (i := i + 1) d_L_law_209 (by omega) (by omega) ?_
  refine j_aload_n C d_L_law_210 (a := b) rfl ?_
  refine j_iload_n C d_L_law_211 (x := nI i) rfl ?_
  refine j_iconst C d_L_law_212 (v := nI 2) (by decide) ?_
  refine j_iadd C d_L_law_213 (z := nI (i + 2)) (nI_add _ _) ?_
  refine j_sld C hX hbl hbA (i := i + 2) d_L_law_214 (by omega) (by omega) ?_
  refine j_aload_n C d_L_law_215 (a := b) rfl ?_
  refine j_iload_n C d_L_law_216 (x := nI i) rfl ?_
  refine j_iconst C d_L_law_217 (v := nI 3) (by decide) ?_
  refine j_iadd C d_L_law_218 (z := nI (i + 3)) (nI_add _ _) ?_
  refine j_sld C hX hbl hbA (i := i + 3) d_L_law_219 (by omega) (by omega) ?_
  refine j_aload_n C d_L_law_220 (a := b) rfl ?_
  refine j_iload_n C d_L_law_221 (x := nI i) rfl ?_
  refine j_iconst C d_L_law_222 (v := nI 4) (by decide) ?_
  refine j_iadd C d_L_law_223 (z := nI (i + 4)) (nI_add _ _) ?_
  refine j_sld C hX hbl hbA (i := i + 4) d_L_law_224 (by omega) (by omega) ?_
  refine jl_callX C (c_X_setRule l D h cs (rk := rk) x1.2 x3 x5 x7 x9 (by decide) hfb x2 (xs (i + 1)) (xs (i + 2)) (xs (i + 3)) (xs (i + 4))) (As := [.int (xs (i + 1)), .int (xs (i + 2)), .int (xs (i + 3)), .int (xs (i + 4))]) (rest := []) ok_X_setRule ml_L_31 (by decide) d_L_law_225 rfl rfl rfl (Nat.le_of_ble_eq_true rfl) ?_
  intro r1 u1 hq
  obtain ⟨N1, pn1, be1, rd1, pd1, rfl, hE1⟩ := hq
  refine j_aload_n C d_L_law_228 (a := h2 0) rfl ?_
  refine j_aload_n C d_L_law_229 (a := b) rfl ?_
  refine j_iload_n C d_L_law_230 (x := nI i) rfl ?_
  refine j_iconst C d_L_law_231 (v := nI 1) (by decide) ?_
  refine j_iadd C d_L_law_232 (z := nI (i + 1)) (nI_add _ _) ?_
  refine j_sld C hX hbl hbA (i := i + 1) d_L_law_233 (by omega) (by omega) ?_
  refine j_aload_n C d_L_law_234 (a := b) rfl ?_
  refine j_iload_n C d_L_law_235 (x := nI i) rfl ?_
  refine j_iconst C d_L_law_236 (v := nI 2) (by decide) ?_
  refine j_iadd C d_L_law_237 (z := nI (i + 2)) (nI_add _ _) ?_
  refine j_sld C hX hbl hbA (i := i + 2) d_L_law_238 (by omega) (by omega) ?_
  refine j_aload_n C d_L_law_239 (a := b) rfl ?_
  refine j_iload_n C d_L_law_240 (x := nI i) rfl ?_
  refine j_iconst C d_L_law_241 (v := nI 3) (by decide) ?_
  refine j_iadd C d_L_law_242 (z := nI (i + 3)) (nI_add _ _) ?_
  refine j_sld C hX hbl hbA (i := i + 3) d_L_law_243 (by omega) (by omega) ?_
  refine j_aload_n C d_L_law_244 (a := b) rfl ?_
  refine j_iload_n C d_L_law_245 (x := nI i) rfl ?_
  refine j_iconst C d_L_law_246 (v := nI 4) (by decide) ?_
  refine j_iadd C d_L_law_247 (z := nI (i + 4)) (nI_add _ _) ?_
  refine j_sld C hX hbl hbA (i := i + 4) d_L_law_248 (by omega) (by omega) ?_
  refine jl_callM C (c_M_setRule l D h2 c2 x3 hM (by decide) hmb x2 (xs (i + 1)) (xs (i + 2)) (xs (i + 3)) (xs (i + 4))) (As := [.int (xs (i + 1)), .int (xs (i + 2)), .int (xs (i + 3)), .int (xs (i + 4))]) (rest := [.int (r1)]) ok_M_setRule ml_L_35 (by decide) d_L_law_249 rfl rfl rfl (Nat.le_of_ble_eq_true rfl) ?_
  intro r2 u2 hq2
  obtain ⟨M1, fu1, fd1, B1, rfl, hE2⟩ := hq2
  obtain ⟨heq, hr'⟩ := op_set hr hE1 hE2
  refine j_icmp_eq C d_L_law_252 (tgt := 553) (by decide) rfl rfl (fun _ => ?_) (fun c => absurd (congrArg Int32.toInt heq) c)
  exact kk pr fb pn1 be1 (sc N1 rd1 pd1) fu1 fd1 mb M1 B1 hfb hmb hr'
set_option maxHeartbeats 4000000 in
set_option maxRecDepth 100000 in
theorem lw_case_3 {l : Launch} {D : va_G} {h h2 : Nat → Nat} {cs c2 : Nat → ClassId} {K : Kc} (C : Kok D (tysX cs ++ tysM c2) K code 4 R_law 9) {b L : Nat} {xs : Nat → Int32} (hX : va_X b L xs K.1.2.2.2 K.1.2.2.2.heap) (hbl : b < K.1.2.2.2.heap.size) (hbA : ¬ K.2.2.1 b) (hL : L ≤ 2562) {i : Nat} (hi : i + 4 < L) {cp : Nat} {cap : Int} {pr fb pn be : Nat} {N : Nat → Nat → Nat} {fu : Nat} {fd : Int} {mb : Nat} {M : Nat → Nat → Nat} {B : Nat → Int} (hfb : fb ≤ 60) (hmb : mb ≤ 60) (hr : REL cp cap pr N M) (kk : ∀ pr fb pn be N fu fd mb M B, fb ≤ 60 → mb ≤ 60 → REL cp cap pr N M → J l D K (wL h cs h2 c2) ((cp, cap, pr, (-1), fb, pn, be, N), (cp, cap, fu, fd, (-1), mb, M, B)) 553 [.ref b, .ref (h 0), .ref (h2 0), .int (nI i)] []) : J l D K (wL h cs h2 c2) ((cp, cap, pr, (-1), fb, pn, be, N), (cp, cap, fu, fd, (-1), mb, M, B)) 257 [.ref b, .ref (h 0), .ref (h2 0), .int (nI i)] [] := by
  obtain ⟨⟨x1, x2, x3, x4, x5, x6, x7, x8, ⟨rk, x9⟩, x10⟩, hM, hR, hS⟩ := id hr
  refine j_aload_n C d_L_law_257 (a := h 0) rfl ?_
  refine j_aload_n C d_L_law_258 (a := b) rfl ?_
  refine j_iload_n C d_L_law_259 (x := nI i) rfl ?_
  refine j_iconst C d_L_law_260 (v := nI 1) (by decide) ?_
  refine j_iadd C d_L_law_261 (z := nI (i + 1)) (nI_add _ _) ?_
  refine j_sld C hX hbl hbA (i := i + 1) d_L_law_262 (by omega) (by omega) ?_
  refine j_aload_n C d_L_law_263 (a := b) rfl ?_
  refine j_iload_n C d_L_law_264 (x := nI i) rfl ?_
  refine j_iconst C d_L_law_265 (v := nI 2) (by decide) ?_
  refine j_iadd C d_L_law_266 (z := nI (i + 2)) (nI_add _ _) ?_
  refine j_sld C hX hbl hbA (i := i + 2) d_L_law_267 (by omega) (by omega) ?_
  refine jl_callX C (c_X_link l D h cs (rk := rk) x1.2 x3 x5 x7 x9 (by decide) hfb x2 x8 (xs (i + 1)) (xs (i + 2))) (As := [.int (xs (i + 1)), .int (xs (i + 2))]) (rest := []) ok_X_link ml_L_36 (by decide) d_L_law_268 rfl rfl rfl (Nat.le_of_ble_eq_true rfl) ?_
  intro r1 u1 hq
  obtain ⟨N1, pn1, be1, rd1, pd1, rfl, hE1⟩ := hq
  refine j_aload_n C d_L_law_271 (a := h2 0) rfl ?_
  refine j_aload_n C d_L_law_272 (a := b) rfl ?_
  refine j_iload_n C d_L_law_273 (x := nI i) rfl ?_
  refine j_iconst C d_L_law_274 (v := nI 1) (by decide) ?_
  refine j_iadd C d_L_law_275 (z := nI (i + 1)) (nI_add _ _) ?_
  refine j_sld C hX hbl hbA (i := i + 1) d_L_law_276 (by omega) (by omega) ?_
  refine j_aload_n C d_L_law_277 (a := b) rfl ?_
  refine j_iload_n C d_L_law_278 (x := nI i) rfl ?_
  refine j_iconst C d_L_law_279 (v := nI 2) (by decide) ?_
  refine j_iadd C d_L_law_280 (z := nI (i + 2)) (nI_add _ _) ?_
  refine j_sld C hX hbl hbA (i := i + 2) d_L_law_281 (by omega) (by omega) ?_
  refine jl_callM C (c_M_link l D h2 c2 x3 hM (by decide) hmb x2 (rk := rk) x9.1 (fun a b z => x9.2 a b z.1 z.2.1 (by rw [← hR.2 a b z.1 z.2.1]; exact z.2.2)) (xs (i + 1)) (xs (i + 2))) (As := [.int (xs (i + 1)), .int (xs (i + 2))]) (rest := [.int (r1)]) ok_M_link ml_L_39 (by decide) d_L_law_282 rfl rfl rfl (Nat.le_of_ble_eq_true rfl) ?_
  intro r2 u2 hq2
  obtain ⟨M1, fu1, fd1, B1, rfl, hE2⟩ := hq2
  obtain ⟨heq, hr'⟩ := op_link hr hE1 hE2
  refine j_icmp_eq C d_L_law_285 (tgt := 553) (by decide) rfl rfl (fun _ => ?_) (fun c => absurd (congrArg Int32.toInt heq) c)
  exact kk pr fb pn1 be1 (sc N1 rd1 pd1) fu1 fd1 mb M1 B1 hfb hmb hr'
set_option maxHeartbeats 4000000 in
set_option maxRecDepth 100000 in
theorem lw_case_4 {l : Launch} {D : va_G} {h h2 : Nat → Nat} {cs c2 : Nat → ClassId} {K : Kc} (C : Kok D (tysX cs ++ tysM c2) K code 4 R_law 9) {b L : Nat} {xs : Nat → Int32} (hX : va_X b L xs K.1.2.2.2 K.1.2.2.2.heap) (hbl : b < K.1.2.2.2.heap.size) (hbA : ¬ K.2.2.1 b) (hL : L ≤ 2562) {i : Nat} (hi : i + 4 < L) {cp : Nat} {cap : Int} {pr fb pn be : Nat} {N : Nat → Nat → Nat} {fu : Nat} {fd : Int} {mb : Nat} {M : Nat → Nat → Nat} {B : Nat → Int} (hfb : fb ≤ 60) (hmb : mb ≤ 60) (hr : REL cp cap pr N M) (kk : ∀ pr fb pn be N fu fd mb M B, fb ≤ 60 → mb ≤ 60 → REL cp cap pr N M → J l D K (wL h cs h2 c2) ((cp, cap, pr, (-1), fb, pn, be, N), (cp, cap, fu, fd, (-1), mb, M, B)) 553 [.ref b, .ref (h 0), .ref (h2 0), .int (nI i)] []) : J l D K (wL h cs h2 c2) ((cp, cap, pr, (-1), fb, pn, be, N), (cp, cap, fu, fd, (-1), mb, M, B)) 290 [.ref b, .ref (h 0), .ref (h2 0), .int (nI i)] [] := by
  obtain ⟨⟨x1, x2, x3, x4, x5, x6, x7, x8, ⟨rk, x9⟩, x10⟩, hM, hR, hS⟩ := id hr
  refine j_aload_n C d_L_law_290 (a := h 0) rfl ?_
  refine j_aload_n C d_L_law_291 (a := b) rfl ?_
  refine j_iload_n C d_L_law_292 (x := nI i) rfl ?_
  refine j_iconst C d_L_law_293 (v := nI 1) (by decide) ?_
  refine j_iadd C d_L_law_294 (z := nI (i + 1)) (nI_add _ _) ?_
  refine j_sld C hX hbl hbA (i := i + 1) d_L_law_295 (by omega) (by omega) ?_
  refine j_aload_n C d_L_law_296 (a := b) rfl ?_
  refine j_iload_n C d_L_law_297 (x := nI i) rfl ?_
  refine j_iconst C d_L_law_298 (v := nI 2) (by decide) ?_
  refine j_iadd C d_L_law_299 (z := nI (i + 2)) (nI_add _ _) ?_
  refine j_sld C hX hbl hbA (i := i + 2) d_L_law_300 (by omega) (by omega) ?_
  refine jl_callX C (c_X_unlink l D h cs x1.2 x3 x5 (xs (i + 1)) (xs (i + 2))) (As := [.int (xs (i + 1)), .int (xs (i + 2))]) (rest := []) ok_X_unlink ml_L_40 (by decide) d_L_law_301 rfl rfl rfl (Nat.le_of_ble_eq_true rfl) ?_
  intro r1 u1 hq
  obtain ⟨N1, rfl, hE1⟩ := unl_x hq
  refine j_aload_n C d_L_law_304 (a := h2 0) rfl ?_
  refine j_aload_n C d_L_law_305 (a := b) rfl ?_
  refine j_iload_n C d_L_law_306 (x := nI i) rfl ?_
  refine j_iconst C d_L_law_307 (v := nI 1) (by decide) ?_
  refine j_iadd C d_L_law_308 (z := nI (i + 1)) (nI_add _ _) ?_
  refine j_sld C hX hbl hbA (i := i + 1) d_L_law_309 (by omega) (by omega) ?_
  refine j_aload_n C d_L_law_310 (a := b) rfl ?_
  refine j_iload_n C d_L_law_311 (x := nI i) rfl ?_
  refine j_iconst C d_L_law_312 (v := nI 2) (by decide) ?_
  refine j_iadd C d_L_law_313 (z := nI (i + 2)) (nI_add _ _) ?_
  refine j_sld C hX hbl hbA (i := i + 2) d_L_law_314 (by omega) (by omega) ?_
  refine jl_callM C (c_M_unlink l D h2 c2 x3 hM (xs (i + 1)) (xs (i + 2))) (As := [.int (xs (i + 1)), .int (xs (i + 2))]) (rest := [.int (r1)]) ok_M_unlink ml_L_44 (by decide) d_L_law_315 rfl rfl rfl (Nat.le_of_ble_eq_true rfl) ?_
  intro r2 u2 hq2
  obtain ⟨M1, rfl, hE2⟩ := unl_m hq2
  obtain ⟨heq, hr'⟩ := op_unl hr hE1 hE2
  refine j_icmp_eq C d_L_law_318 (tgt := 553) (by decide) rfl rfl (fun _ => ?_) (fun c => absurd (congrArg Int32.toInt heq) c)
  exact kk pr fb pn be N1 fu fd mb M1 B hfb hmb hr'
set_option maxHeartbeats 4000000 in
set_option maxRecDepth 100000 in
theorem lw_case_5 {l : Launch} {D : va_G} {h h2 : Nat → Nat} {cs c2 : Nat → ClassId} {K : Kc} (C : Kok D (tysX cs ++ tysM c2) K code 4 R_law 9) {b L : Nat} {xs : Nat → Int32} (hX : va_X b L xs K.1.2.2.2 K.1.2.2.2.heap) (hbl : b < K.1.2.2.2.heap.size) (hbA : ¬ K.2.2.1 b) (hL : L ≤ 2562) {i : Nat} (hi : i + 4 < L) {cp : Nat} {cap : Int} {pr fb pn be : Nat} {N : Nat → Nat → Nat} {fu : Nat} {fd : Int} {mb : Nat} {M : Nat → Nat → Nat} {B : Nat → Int} (hfb : fb ≤ 60) (hmb : mb ≤ 60) (hr : REL cp cap pr N M) (kk : ∀ pr fb pn be N fu fd mb M B, fb ≤ 60 → mb ≤ 60 → REL cp cap pr N M → J l D K (wL h cs h2 c2) ((cp, cap, pr, (-1), fb, pn, be, N), (cp, cap, fu, fd, (-1), mb, M, B)) 553 [.ref b, .ref (h 0), .ref (h2 0), .int (nI i)] []) : J l D K (wL h cs h2 c2) ((cp, cap, pr, (-1), fb, pn, be, N), (cp, cap, fu, fd, (-1), mb, M, B)) 323 [.ref b, .ref (h 0), .ref (h2 0), .int (nI i)] [] := by
  obtain ⟨⟨x1, x2, x3, x4, x5, x6, x7, x8, ⟨rk, x9⟩, x10⟩, hM, hR, hS⟩ := id hr
  refine j_aload_n C d_L_law_323 (a := h 0) rfl ?_
  refine j_aload_n C d_L_law_324 (a := b) rfl ?_
  refine j_iload_n C d_L_law_325 (x := nI i) rfl ?_
  refine j_iconst C d_L_law_326 (v := nI 1) (by decide) ?_
  refine j_iadd C d_L_law_327 (z := nI (i + 1)) (nI_add _ _) ?_
  refine j_sld C hX hbl hbA (i := i + 1) d_L_law_328 (by omega) (by omega) ?_
  refine jl_callX C (c_X_remove l D h cs x1.2 x3 x5 (xs (i + 1))) (As := [.int (xs (i + 1))]) (rest := []) ok_X_remove ml_L_45 (by decide) d_L_law_329 rfl rfl rfl (Nat.le_of_ble_eq_true rfl) ?_
  intro r1 u1 hq
  obtain ⟨pr1, N1, rfl, hE1⟩ := rem_x hq
  refine j_aload_n C d_L_law_332 (a := h2 0) rfl ?_
  refine j_aload_n C d_L_law_333 (a := b) rfl ?_
  refine j_iload_n C d_L_law_334 (x := nI i) rfl ?_
  refine j_iconst C d_L_law_335 (v := nI 1) (by decide) ?_
  refine j_iadd C d_L_law_336 (z := nI (i + 1)) (nI_add _ _) ?_
  refine j_sld C hX hbl hbA (i := i + 1) d_L_law_337 (by omega) (by omega) ?_
  refine jl_callM C (c_M_remove l D h2 c2 x3 hM (xs (i + 1))) (As := [.int (xs (i + 1))]) (rest := [.int (r1)]) ok_M_remove ml_L_49 (by decide) d_L_law_338 rfl rfl rfl (Nat.le_of_ble_eq_true rfl) ?_
  intro r2 u2 hq2
  obtain ⟨M1, rfl, hE2⟩ := rem_m hq2
  obtain ⟨heq, hr'⟩ := op_rem hr hE1 hE2
  refine j_icmp_eq C d_L_law_341 (tgt := 553) (by decide) rfl rfl (fun _ => ?_) (fun c => absurd (congrArg Int32.toInt heq) c)
  exact kk pr1 fb pn be N1 fu fd mb M1 B hfb hmb hr'
set_option maxHeartbeats 4000000 in
set_option maxRecDepth 100000 in
theorem lw_case_6 {l : Launch} {D : va_G} {h h2 : Nat → Nat} {cs c2 : Nat → ClassId} {K : Kc} (C : Kok D (tysX cs ++ tysM c2) K code 4 R_law 9) {b L : Nat} {xs : Nat → Int32} (hX : va_X b L xs K.1.2.2.2 K.1.2.2.2.heap) (hbl : b < K.1.2.2.2.heap.size) (hbA : ¬ K.2.2.1 b) (hL : L ≤ 2562) {i : Nat} (hi : i + 4 < L) {cp : Nat} {cap : Int} {pr fb pn be : Nat} {N : Nat → Nat → Nat} {fu : Nat} {fd : Int} {mb : Nat} {M : Nat → Nat → Nat} {B : Nat → Int} (hfb : fb ≤ 60) (hmb : mb ≤ 60) (hr : REL cp cap pr N M) (kk : ∀ pr fb pn be N fu fd mb M B, fb ≤ 60 → mb ≤ 60 → REL cp cap pr N M → J l D K (wL h cs h2 c2) ((cp, cap, pr, (-1), fb, pn, be, N), (cp, cap, fu, fd, (-1), mb, M, B)) 553 [.ref b, .ref (h 0), .ref (h2 0), .int (nI i)] []) : J l D K (wL h cs h2 c2) ((cp, cap, pr, (-1), fb, pn, be, N), (cp, cap, fu, fd, (-1), mb, M, B)) 346 [.ref b, .ref (h 0), .ref (h2 0), .int (nI i)] [] := by
  obtain ⟨⟨x1, x2, x3, x4, x5, x6, x7, x8, ⟨rk, x9⟩, x10⟩, hM, hR, hS⟩ := id hr
  refine j_aload_n C d_L_law_346 (a := h 0) rfl ?_
  refine jl_callX C (c_X_jobs l D h cs) (As := []) (rest := []) ok_X_jobs ml_L_50 (by decide) d_L_law_347 rfl rfl rfl (Nat.le_of_ble_eq_true rfl) ?_
  intro r1 u1 hq
  obtain ⟨rfl, rfl⟩ := hq
  refine j_aload_n C d_L_law_350 (a := h2 0) rfl ?_
  refine jl_callM C (c_M_jobs l D h2 c2 x3 hM) (As := []) (rest := [.int (nI pr)]) ok_M_jobs ml_L_54 (by decide) d_L_law_351 rfl rfl rfl (Nat.le_of_ble_eq_true rfl) ?_
  intro r2 u2 hq2
  obtain ⟨rfl, rfl⟩ := hq2
  have heq : nI pr = nI pr := rfl
  have hr' := hr
  refine j_icmp_eq C d_L_law_354 (tgt := 553) (by decide) rfl rfl (fun _ => ?_) (fun c => absurd (congrArg Int32.toInt heq) c)
  exact kk pr fb pn be N fu fd mb M B hfb hmb hr'
set_option maxHeartbeats 4000000 in
set_option maxRecDepth 100000 in
theorem lw_case_7 {l : Launch} {D : va_G} {h h2 : Nat → Nat} {cs c2 : Nat → ClassId} {K : Kc} (C : Kok D (tysX cs ++ tysM c2) K code 4 R_law 9) {b L : Nat} {xs : Nat → Int32} (hX : va_X b L xs K.1.2.2.2 K.1.2.2.2.heap) (hbl : b < K.1.2.2.2.heap.size) (hbA : ¬ K.2.2.1 b) (hL : L ≤ 2562) {i : Nat} (hi : i + 4 < L) {cp : Nat} {cap : Int} {pr fb pn be : Nat} {N : Nat → Nat → Nat} {fu : Nat} {fd : Int} {mb : Nat} {M : Nat → Nat → Nat} {B : Nat → Int} (hfb : fb ≤ 60) (hmb : mb ≤ 60) (hr : REL cp cap pr N M) (kk : ∀ pr fb pn be N fu fd mb M B, fb ≤ 60 → mb ≤ 60 → REL cp cap pr N M → J l D K (wL h cs h2 c2) ((cp, cap, pr, (-1), fb, pn, be, N), (cp, cap, fu, fd, (-1), mb, M, B)) 553 [.ref b, .ref (h 0), .ref (h2 0), .int (nI i)] []) : J l D K (wL h cs h2 c2) ((cp, cap, pr, (-1), fb, pn, be, N), (cp, cap, fu, fd, (-1), mb, M, B)) 359 [.ref b, .ref (h 0), .ref (h2 0), .int (nI i)] [] := by
  obtain ⟨⟨x1, x2, x3, x4, x5, x6, x7, x8, ⟨rk, x9⟩, x10⟩, hM, hR, hS⟩ := id hr
  refine j_aload_n C d_L_law_359 (a := h 0) rfl ?_
  refine j_aload_n C d_L_law_360 (a := b) rfl ?_
  refine j_iload_n C d_L_law_361 (x := nI i) rfl ?_
  refine j_iconst C d_L_law_362 (v := nI 1) (by decide) ?_
  refine j_iadd C d_L_law_363 (z := nI (i + 1)) (nI_add _ _) ?_
  refine j_sld C hX hbl hbA (i := i + 1) d_L_law_364 (by omega) (by omega) ?_
  refine j_aload_n C d_L_law_365 (a := b) rfl ?_
  refine j_iload_n C d_L_law_366 (x := nI i) rfl ?_
  refine j_iconst C d_L_law_367 (v := nI 2) (by decide) ?_
  refine j_iadd C d_L_law_368 (z := nI (i + 2)) (nI_add _ _) ?_
  refine j_sld C hX hbl hbA (i := i + 2) d_L_law_369 (by omega) (by omega) ?_
  refine jl_callX C (c_X_linked l D h cs x1.2 x3 x5 (xs (i + 1)) (xs (i + 2))) (As := [.int (xs (i + 1)), .int (xs (i + 2))]) (rest := []) ok_X_linked ml_L_55 (by decide) d_L_law_370 rfl rfl rfl (Nat.le_of_ble_eq_true rfl) ?_
  intro r1 u1 hq
  obtain ⟨rfl, hE1⟩ := hq
  refine j_aload_n C d_L_law_373 (a := h2 0) rfl ?_
  refine j_aload_n C d_L_law_374 (a := b) rfl ?_
  refine j_iload_n C d_L_law_375 (x := nI i) rfl ?_
  refine j_iconst C d_L_law_376 (v := nI 1) (by decide) ?_
  refine j_iadd C d_L_law_377 (z := nI (i + 1)) (nI_add _ _) ?_
  refine j_sld C hX hbl hbA (i := i + 1) d_L_law_378 (by omega) (by omega) ?_
  refine j_aload_n C d_L_law_379 (a := b) rfl ?_
  refine j_iload_n C d_L_law_380 (x := nI i) rfl ?_
  refine j_iconst C d_L_law_381 (v := nI 2) (by decide) ?_
  refine j_iadd C d_L_law_382 (z := nI (i + 2)) (nI_add _ _) ?_
  refine j_sld C hX hbl hbA (i := i + 2) d_L_law_383 (by omega) (by omega) ?_
  refine jl_callM C (c_M_linked l D h2 c2 x3 hM (xs (i + 1)) (xs (i + 2))) (As := [.int (xs (i + 1)), .int (xs (i + 2))]) (rest := [.int (r1)]) ok_M_linked ml_L_58 (by decide) d_L_law_384 rfl rfl rfl (Nat.le_of_ble_eq_true rfl) ?_
  intro r2 u2 hq2
  obtain ⟨rfl, hE2⟩ := hq2
  have heq := op_lkd hr hE1 hE2
  have hr' := hr
  refine j_icmp_eq C d_L_law_387 (tgt := 553) (by decide) rfl rfl (fun _ => ?_) (fun c => absurd (congrArg Int32.toInt heq) c)
  exact kk pr fb pn be N fu fd mb M B hfb hmb hr'
set_option maxHeartbeats 4000000 in
set_option maxRecDepth 100000 in
theorem lw_case_8 {l : Launch} {D : va_G} {h h2 : Nat → Nat} {cs c2 : Nat → ClassId} {K : Kc} (C : Kok D (tysX cs ++ tysM c2) K code 4 R_law 9) {b L : Nat} {xs : Nat → Int32} (hX : va_X b L xs K.1.2.2.2 K.1.2.2.2.heap) (hbl : b < K.1.2.2.2.heap.size) (hbA : ¬ K.2.2.1 b) (hL : L ≤ 2562) {i : Nat} (hi : i + 4 < L) {cp : Nat} {cap : Int} {pr fb pn be : Nat} {N : Nat → Nat → Nat} {fu : Nat} {fd : Int} {mb : Nat} {M : Nat → Nat → Nat} {B : Nat → Int} (hfb : fb ≤ 60) (hmb : mb ≤ 60) (hr : REL cp cap pr N M) (kk : ∀ pr fb pn be N fu fd mb M B, fb ≤ 60 → mb ≤ 60 → REL cp cap pr N M → J l D K (wL h cs h2 c2) ((cp, cap, pr, (-1), fb, pn, be, N), (cp, cap, fu, fd, (-1), mb, M, B)) 553 [.ref b, .ref (h 0), .ref (h2 0), .int (nI i)] []) : J l D K (wL h cs h2 c2) ((cp, cap, pr, (-1), fb, pn, be, N), (cp, cap, fu, fd, (-1), mb, M, B)) 392 [.ref b, .ref (h 0), .ref (h2 0), .int (nI i)] [] := by
  obtain ⟨⟨x1, x2, x3, x4, x5, x6, x7, x8, ⟨rk, x9⟩, x10⟩, hM, hR, hS⟩ := id hr
  refine j_aload_n C d_L_law_392 (a := h 0) rfl ?_
  refine j_aload_n C d_L_law_393 (a := b) rfl ?_
  refine j_iload_n C d_L_law_394 (x := nI i) rfl ?_
  refine j_iconst C d_L_law_395 (v := nI 1) (by decide) ?_
  refine j_iadd C d_L_law_396 (z := nI (i + 1)) (nI_add _ _) ?_
  refine j_sld C hX hbl hbA (i := i + 1) d_L_law_397 (by omega) (by omega) ?_
  refine j_aload_n C d_L_law_398 (a := b) rfl ?_
  refine j_iload_n C d_L_law_399 (x := nI i) rfl ?_
  refine j_iconst C d_L_law_400 (v := nI 2) (by decide) ?_
  refine j_iadd C d_L_law_401 (z := nI (i + 2)) (nI_add _ _) ?_
  refine j_sld C hX hbl hbA (i := i + 2) d_L_law_402 (by omega) (by omega) ?_
  refine jl_callX C (c_X_costAt l D h cs x1.2 x3 x5 (xs (i + 1)) (xs (i + 2))) (As := [.int (xs (i + 1)), .int (xs (i + 2))]) (rest := []) ok_X_costAt ml_L_59 (by decide) d_L_law_403 rfl rfl rfl (Nat.le_of_ble_eq_true rfl) ?_
  intro r1 u1 hq
  obtain ⟨rfl, hE1⟩ := hq
  refine j_aload_n C d_L_law_406 (a := h2 0) rfl ?_
  refine j_aload_n C d_L_law_407 (a := b) rfl ?_
  refine j_iload_n C d_L_law_408 (x := nI i) rfl ?_
  refine j_iconst C d_L_law_409 (v := nI 1) (by decide) ?_
  refine j_iadd C d_L_law_410 (z := nI (i + 1)) (nI_add _ _) ?_
  refine j_sld C hX hbl hbA (i := i + 1) d_L_law_411 (by omega) (by omega) ?_
  refine j_aload_n C d_L_law_412 (a := b) rfl ?_
  refine j_iload_n C d_L_law_413 (x := nI i) rfl ?_
  refine j_iconst C d_L_law_414 (v := nI 2) (by decide) ?_
  refine j_iadd C d_L_law_415 (z := nI (i + 2)) (nI_add _ _) ?_
  refine j_sld C hX hbl hbA (i := i + 2) d_L_law_416 (by omega) (by omega) ?_
  refine jl_callM C (c_M_costAt l D h2 c2 x3 hM (xs (i + 1)) (xs (i + 2))) (As := [.int (xs (i + 1)), .int (xs (i + 2))]) (rest := [.int (r1)]) ok_M_costAt ml_L_62 (by decide) d_L_law_417 rfl rfl rfl (Nat.le_of_ble_eq_true rfl) ?_
  intro r2 u2 hq2
  obtain ⟨rfl, hE2⟩ := hq2
  have heq := op_cost hr hE1 hE2
  have hr' := hr
  refine j_icmp_eq C d_L_law_420 (tgt := 553) (by decide) rfl rfl (fun _ => ?_) (fun c => absurd (congrArg Int32.toInt heq) c)
  exact kk pr fb pn be N fu fd mb M B hfb hmb hr'
set_option maxHeartbeats 4000000 in
set_option maxRecDepth 100000 in
theorem lw_case_9 {l : Launch} {D : va_G} {h h2 : Nat → Nat} {cs c2 : Nat → ClassId} {K : Kc} (C : Kok D (tysX cs ++ tysM c2) K code 4 R_law 9) {b L : Nat} {xs : Nat → Int32} (hX : va_X b L xs K.1.2.2.2 K.1.2.2.2.heap) (hbl : b < K.1.2.2.2.heap.size) (hbA : ¬ K.2.2.1 b) (hL : L ≤ 2562) {i : Nat} (hi : i + 4 < L) {cp : Nat} {cap : Int} {pr fb pn be : Nat} {N : Nat → Nat → Nat} {fu : Nat} {fd : Int} {mb : Nat} {M : Nat → Nat → Nat} {B : Nat → Int} (hfb : fb ≤ 60) (hmb : mb ≤ 60) (hr : REL cp cap pr N M) (kk : ∀ pr fb pn be N fu fd mb M B, fb ≤ 60 → mb ≤ 60 → REL cp cap pr N M → J l D K (wL h cs h2 c2) ((cp, cap, pr, (-1), fb, pn, be, N), (cp, cap, fu, fd, (-1), mb, M, B)) 553 [.ref b, .ref (h 0), .ref (h2 0), .int (nI i)] []) : J l D K (wL h cs h2 c2) ((cp, cap, pr, (-1), fb, pn, be, N), (cp, cap, fu, fd, (-1), mb, M, B)) 425 [.ref b, .ref (h 0), .ref (h2 0), .int (nI i)] [] := by
  obtain ⟨⟨x1, x2, x3, x4, x5, x6, x7, x8, ⟨rk, x9⟩, x10⟩, hM, hR, hS⟩ := id hr
  refine j_aload_n C d_L_law_425 (a := h 0) rfl ?_
  refine jl_callX C (c_X_worst l D h cs (rk := rk) x3 x5 x7 x9 (by decide) hfb) (As := []) (rest := []) ok_X_worst ml_L_63 (by decide) d_L_law_426 rfl rfl rfl (Nat.le_of_ble_eq_true rfl) ?_
  intro r1 u1 hq
  obtain ⟨pn1, be1, rd1, pd1, rfl, hE1⟩ := hq
  refine j_aload_n C d_L_law_429 (a := h2 0) rfl ?_
  refine jl_callM C (c_M_worst l D h2 c2 x3 hM (by decide) hmb) (As := []) (rest := [.int (r1)]) ok_M_worst ml_L_66 (by decide) d_L_law_430 rfl rfl rfl (Nat.le_of_ble_eq_true rfl) ?_
  intro r2 u2 hq2
  obtain ⟨fu1, fd1, B1, rfl, hE2⟩ := hq2
  have heq := op_worst hr hE1 hE2
  have hr' := hr
  refine j_icmp_eq C d_L_law_433 (tgt := 553) (by decide) rfl rfl (fun _ => ?_) (fun c => absurd (congrArg Int32.toInt heq) c)
  exact kk pr fb pn1 be1 (sc N rd1 pd1) fu1 fd1 mb M B1 hfb hmb hr'
set_option maxHeartbeats 4000000 in
set_option maxRecDepth 100000 in
theorem lw_case_10 {l : Launch} {D : va_G} {h h2 : Nat → Nat} {cs c2 : Nat → ClassId} {K : Kc} (C : Kok D (tysX cs ++ tysM c2) K code 4 R_law 9) {b L : Nat} {xs : Nat → Int32} (hX : va_X b L xs K.1.2.2.2 K.1.2.2.2.heap) (hbl : b < K.1.2.2.2.heap.size) (hbA : ¬ K.2.2.1 b) (hL : L ≤ 2562) {i : Nat} (hi : i + 4 < L) {cp : Nat} {cap : Int} {pr fb pn be : Nat} {N : Nat → Nat → Nat} {fu : Nat} {fd : Int} {mb : Nat} {M : Nat → Nat → Nat} {B : Nat → Int} (hfb : fb ≤ 60) (hmb : mb ≤ 60) (hr : REL cp cap pr N M) (kk : ∀ pr fb pn be N fu fd mb M B, fb ≤ 60 → mb ≤ 60 → REL cp cap pr N M → J l D K (wL h cs h2 c2) ((cp, cap, pr, (-1), fb, pn, be, N), (cp, cap, fu, fd, (-1), mb, M, B)) 553 [.ref b, .ref (h 0), .ref (h2 0), .int (nI i)] []) : J l D K (wL h cs h2 c2) ((cp, cap, pr, (-1), fb, pn, be, N), (cp, cap, fu, fd, (-1), mb, M, B)) 438 [.ref b, .ref (h 0), .ref (h2 0), .int (nI i)] [] := by
  obtain ⟨⟨x1, x2, x3, x4, x5, x6, x7, x8, ⟨rk, x9⟩, x10⟩, hM, hR, hS⟩ := id hr
  refine j_aload_n C d_L_law_438 (a := h 0) rfl ?_
  refine j_aload_n C d_L_law_439 (a := b) rfl ?_
  refine j_iload_n C d_L_law_440 (x := nI i) rfl ?_
  refine j_iconst C d_L_law_441 (v := nI 1) (by decide) ?_
  refine j_iadd C d_L_law_442 (z := nI (i + 1)) (nI_add _ _) ?_
  refine j_sld C hX hbl hbA (i := i + 1) d_L_law_443 (by omega) (by omega) ?_
  refine jl_callX C (c_X_worstWithout l D h cs x1.2 (rk := rk) x3 x5 x7 x9 (by decide) hfb (xs (i + 1))) (As := [.int (xs (i + 1))]) (rest := []) ok_X_worstWithout ml_L_67 (by decide) d_L_law_444 rfl rfl rfl (Nat.le_of_ble_eq_true rfl) ?_
  intro r1 u1 hq
  obtain ⟨pn1, be1, rd1, pd1, rfl, hE1⟩ := hq
  refine j_aload_n C d_L_law_447 (a := h2 0) rfl ?_
  refine j_aload_n C d_L_law_448 (a := b) rfl ?_
  refine j_iload_n C d_L_law_449 (x := nI i) rfl ?_
  refine j_iconst C d_L_law_450 (v := nI 1) (by decide) ?_
  refine j_iadd C d_L_law_451 (z := nI (i + 1)) (nI_add _ _) ?_
  refine j_sld C hX hbl hbA (i := i + 1) d_L_law_452 (by omega) (by omega) ?_
  refine jl_callM C (c_M_worstWithout l D h2 c2 x3 hM (by decide) hmb (xs (i + 1))) (As := [.int (xs (i + 1))]) (rest := [.int (r1)]) ok_M_worstWithout ml_L_71 (by decide) d_L_law_453 rfl rfl rfl (Nat.le_of_ble_eq_true rfl) ?_
  intro r2 u2 hq2
  obtain ⟨fu1, fd1, B1, rfl, hE2⟩ := hq2
  have heq := op_without hr hE1 hE2
  have hr' := hr
  refine j_icmp_eq C d_L_law_456 (tgt := 553) (by decide) rfl rfl (fun _ => ?_) (fun c => absurd (congrArg Int32.toInt heq) c)
  exact kk pr fb pn1 be1 (sc N rd1 pd1) fu1 fd1 mb M B1 hfb hmb hr'
set_option maxHeartbeats 4000000 in
set_option maxRecDepth 100000 in
theorem lw_case_11 {l : Launch} {D : va_G} {h h2 : Nat → Nat} {cs c2 : Nat → ClassId} {K : Kc} (C : Kok D (tysX cs ++ tysM c2) K code 4 R_law 9) {b L : Nat} {xs : Nat → Int32} (hX : va_X b L xs K.1.2.2.2 K.1.2.2.2.heap) (hbl : b < K.1.2.2.2.heap.size) (hbA : ¬ K.2.2.1 b) (hL : L ≤ 2562) {i : Nat} (hi : i + 4 < L) {cp : Nat} {cap : Int} {pr fb pn be : Nat} {N : Nat → Nat → Nat} {fu : Nat} {fd : Int} {mb : Nat} {M : Nat → Nat → Nat} {B : Nat → Int} (hfb : fb ≤ 60) (hmb : mb ≤ 60) (hr : REL cp cap pr N M) (kk : ∀ pr fb pn be N fu fd mb M B, fb ≤ 60 → mb ≤ 60 → REL cp cap pr N M → J l D K (wL h cs h2 c2) ((cp, cap, pr, (-1), fb, pn, be, N), (cp, cap, fu, fd, (-1), mb, M, B)) 553 [.ref b, .ref (h 0), .ref (h2 0), .int (nI i)] []) : J l D K (wL h cs h2 c2) ((cp, cap, pr, (-1), fb, pn, be, N), (cp, cap, fu, fd, (-1), mb, M, B)) 461 [.ref b, .ref (h 0), .ref (h2 0), .int (nI i)] [] := by
  obtain ⟨⟨x1, x2, x3, x4, x5, x6, x7, x8, ⟨rk, x9⟩, x10⟩, hM, hR, hS⟩ := id hr
  refine j_aload_n C d_L_law_461 (a := h 0) rfl ?_
  refine jl_callX C (c_X_span l D h cs (rk := rk) x3 x5 x7 x9 (by decide) hfb) (As := []) (rest := []) ok_X_span ml_L_72 (by decide) d_L_law_462 rfl rfl rfl (Nat.le_of_ble_eq_true rfl) ?_
  intro r1 u1 hq
  obtain ⟨be1, rd1, e, rfl, rfl, hE1⟩ := hq
  refine j_aload_n C d_L_law_465 (a := h2 0) rfl ?_
  refine jl_callM C (c_M_span l D h2 c2 x3 hM (by decide) hmb) (As := []) (rest := [.int (nI e)]) ok_M_span ml_L_75 (by decide) d_L_law_466 rfl rfl rfl (Nat.le_of_ble_eq_true rfl) ?_
  intro r2 u2 hq2
  obtain ⟨fu1, fd1, B1, rfl, e2, rfl, hE2⟩ := hq2
  have heq : nI e = iI e2 := by rw [op_span hr hE1 hE2, nI_iI]
  have hr' := hr
  refine j_icmp_eq C d_L_law_469 (tgt := 553) (by decide) rfl rfl (fun _ => ?_) (fun c => absurd (congrArg Int32.toInt heq) c)
  exact kk pr fb pn be1 (va_up N 7 rd1) fu1 fd1 mb M B1 hfb hmb hr'
set_option maxHeartbeats 4000000 in
set_option maxRecDepth 100000 in
theorem lw_case_12 {l : Launch} {D : va_G} {h h2 : Nat → Nat} {cs c2 : Nat → ClassId} {K : Kc} (C : Kok D (tysX cs ++ tysM c2) K code 4 R_law 9) {b L : Nat} {xs : Nat → Int32} (hX : va_X b L xs K.1.2.2.2 K.1.2.2.2.heap) (hbl : b < K.1.2.2.2.heap.size) (hbA : ¬ K.2.2.1 b) (hL : L ≤ 2562) {i : Nat} (hi : i + 4 < L) {cp : Nat} {cap : Int} {pr fb pn be : Nat} {N : Nat → Nat → Nat} {fu : Nat} {fd : Int} {mb : Nat} {M : Nat → Nat → Nat} {B : Nat → Int} (hfb : fb ≤ 60) (hmb : mb ≤ 60) (hr : REL cp cap pr N M) (kk : ∀ pr fb pn be N fu fd mb M B, fb ≤ 60 → mb ≤ 60 → REL cp cap pr N M → J l D K (wL h cs h2 c2) ((cp, cap, pr, (-1), fb, pn, be, N), (cp, cap, fu, fd, (-1), mb, M, B)) 553 [.ref b, .ref (h 0), .ref (h2 0), .int (nI i)] []) : J l D K (wL h cs h2 c2) ((cp, cap, pr, (-1), fb, pn, be, N), (cp, cap, fu, fd, (-1), mb, M, B)) 474 [.ref b, .ref (h 0), .ref (h2 0), .int (nI i)] [] := by
  obtain ⟨⟨x1, x2, x3, x4, x5, x6, x7, x8, ⟨rk, x9⟩, x10⟩, hM, hR, hS⟩ := id hr
  refine j_aload_n C d_L_law_474 (a := h 0) rfl ?_
  refine j_aload_n C d_L_law_475 (a := b) rfl ?_
  refine j_iload_n C d_L_law_476 (x := nI i) rfl ?_
  refine j_iconst C d_L_law_477 (v := nI 1) (by decide) ?_
  refine j_iadd C d_L_law_478 (z := nI (i + 1)) (nI_add _ _) ?_
  refine j_sld C hX hbl hbA (i := i + 1) d_L_law_479 (by omega) (by omega) ?_
  refine jl_callX C (c_X_earliestFinish l D h cs (rk := rk) x1.2 x3 x5 x7 x9 hfb x2 (xs (i + 1))) (As := [.int (xs (i + 1))]) (rest := []) ok_X_earliestFinish ml_L_76 (by decide) d_L_law_480 rfl rfl rfl (Nat.le_of_ble_eq_true rfl) ?_
  intro r1 u1 hq
  obtain ⟨fb1, pn1, be1, rd1, pd1, hfb1, rfl, hE1⟩ := fin_x hfb hq
  refine j_aload_n C d_L_law_483 (a := h2 0) rfl ?_
  refine j_aload_n C d_L_law_484 (a := b) rfl ?_
  refine j_iload_n C d_L_law_485 (x := nI i) rfl ?_
  refine j_iconst C d_L_law_486 (v := nI 1) (by decide) ?_
  refine j_iadd C d_L_law_487 (z := nI (i + 1)) (nI_add _ _) ?_
  refine j_sld C hX hbl hbA (i := i + 1) d_L_law_488 (by omega) (by omega) ?_
  refine jl_callM C (c_M_earliestFinish l D h2 c2 x3 hM (by decide) hmb x2 (xs (i + 1))) (As := [.int (xs (i + 1))]) (rest := [.int (r1)]) ok_M_earliestFinish ml_L_79 (by decide) d_L_law_489 rfl rfl rfl (Nat.le_of_ble_eq_true rfl) ?_
  intro r2 u2 hq2
  obtain ⟨fu1, fd1, mb1, B1, hmb1, rfl, hE2⟩ := fin_m hmb hq2
  have heq := op_finish hr hE1 hE2
  have hr' := hr
  refine j_icmp_eq C d_L_law_492 (tgt := 553) (by decide) rfl rfl (fun _ => ?_) (fun c => absurd (congrArg Int32.toInt heq) c)
  exact kk pr fb1 pn1 be1 (sc N rd1 pd1) fu1 fd1 mb1 M B1 hfb1 hmb1 hr'
set_option maxHeartbeats 4000000 in
set_option maxRecDepth 100000 in
theorem lw_case_13 {l : Launch} {D : va_G} {h h2 : Nat → Nat} {cs c2 : Nat → ClassId} {K : Kc} (C : Kok D (tysX cs ++ tysM c2) K code 4 R_law 9) {b L : Nat} {xs : Nat → Int32} (hX : va_X b L xs K.1.2.2.2 K.1.2.2.2.heap) (hbl : b < K.1.2.2.2.heap.size) (hbA : ¬ K.2.2.1 b) (hL : L ≤ 2562) {i : Nat} (hi : i + 4 < L) {cp : Nat} {cap : Int} {pr fb pn be : Nat} {N : Nat → Nat → Nat} {fu : Nat} {fd : Int} {mb : Nat} {M : Nat → Nat → Nat} {B : Nat → Int} (hfb : fb ≤ 60) (hmb : mb ≤ 60) (hr : REL cp cap pr N M) (kk : ∀ pr fb pn be N fu fd mb M B, fb ≤ 60 → mb ≤ 60 → REL cp cap pr N M → J l D K (wL h cs h2 c2) ((cp, cap, pr, (-1), fb, pn, be, N), (cp, cap, fu, fd, (-1), mb, M, B)) 553 [.ref b, .ref (h 0), .ref (h2 0), .int (nI i)] []) : J l D K (wL h cs h2 c2) ((cp, cap, pr, (-1), fb, pn, be, N), (cp, cap, fu, fd, (-1), mb, M, B)) 497 [.ref b, .ref (h 0), .ref (h2 0), .int (nI i)] [] := by
  obtain ⟨⟨x1, x2, x3, x4, x5, x6, x7, x8, ⟨rk, x9⟩, x10⟩, hM, hR, hS⟩ := id hr
  refine j_aload_n C d_L_law_497 (a := h 0) rfl ?_
  refine j_aload_n C d_L_law_498 (a := b) rfl ?_
  refine j_iload_n C d_L_law_499 (x := nI i) rfl ?_
  refine j_iconst C d_L_law_500 (v := nI 1) (by decide) ?_
  refine j_iadd C d_L_law_501 (z := nI (i + 1)) (nI_add _ _) ?_
  refine j_sld C hX hbl hbA (i := i + 1) d_L_law_502 (by omega) (by omega) ?_
  refine jl_callX C (c_X_delay l D h cs (rk := rk) x1.2 x3 x5 x7 x9 (by decide) hfb x2 x6 (xs (i + 1))) (As := [.int (xs (i + 1))]) (rest := []) ok_X_delay ml_L_80 (by decide) d_L_law_503 rfl rfl rfl (Nat.le_of_ble_eq_true rfl) ?_
  intro r1 u1 hq
  obtain ⟨pn1, be1, rd1, pd1, rfl, hE1⟩ := hq
  refine j_aload_n C d_L_law_506 (a := h2 0) rfl ?_
  refine j_aload_n C d_L_law_507 (a := b) rfl ?_
  refine j_iload_n C d_L_law_508 (x := nI i) rfl ?_
  refine j_iconst C d_L_law_509 (v := nI 1) (by decide) ?_
  refine j_iadd C d_L_law_510 (z := nI (i + 1)) (nI_add _ _) ?_
  refine j_sld C hX hbl hbA (i := i + 1) d_L_law_511 (by omega) (by omega) ?_
  refine jl_callM C (c_M_delay l D h2 c2 x3 hM (by decide) hmb x2 (fun j hj => by rw [(hR.1 j hj).1]; exact x6 j (lt5_of x3 hj)) (xs (i + 1))) (As := [.int (xs (i + 1))]) (rest := [.int (r1)]) ok_M_delay ml_L_83 (by decide) d_L_law_512 rfl rfl rfl (Nat.le_of_ble_eq_true rfl) ?_
  intro r2 u2 hq2
  obtain ⟨fu1, fd1, B1, rfl, hE2⟩ := hq2
  have heq := op_del hr hE1 hE2
  have hr' := hr
  refine j_icmp_eq C d_L_law_515 (tgt := 553) (by decide) rfl rfl (fun _ => ?_) (fun c => absurd (congrArg Int32.toInt heq) c)
  exact kk pr fb pn1 be1 (sc N rd1 pd1) fu1 fd1 mb M B1 hfb hmb hr'
set_option maxHeartbeats 4000000 in
set_option maxRecDepth 100000 in
theorem lw_case_14 {l : Launch} {D : va_G} {h h2 : Nat → Nat} {cs c2 : Nat → ClassId} {K : Kc} (C : Kok D (tysX cs ++ tysM c2) K code 4 R_law 9) {b L : Nat} {xs : Nat → Int32} (hX : va_X b L xs K.1.2.2.2 K.1.2.2.2.heap) (hbl : b < K.1.2.2.2.heap.size) (hbA : ¬ K.2.2.1 b) (hL : L ≤ 2562) {i : Nat} (hi : i + 4 < L) {cp : Nat} {cap : Int} {pr fb pn be : Nat} {N : Nat → Nat → Nat} {fu : Nat} {fd : Int} {mb : Nat} {M : Nat → Nat → Nat} {B : Nat → Int} (hfb : fb ≤ 60) (hmb : mb ≤ 60) (hr : REL cp cap pr N M) (kk : ∀ pr fb pn be N fu fd mb M B, fb ≤ 60 → mb ≤ 60 → REL cp cap pr N M → J l D K (wL h cs h2 c2) ((cp, cap, pr, (-1), fb, pn, be, N), (cp, cap, fu, fd, (-1), mb, M, B)) 553 [.ref b, .ref (h 0), .ref (h2 0), .int (nI i)] []) : J l D K (wL h cs h2 c2) ((cp, cap, pr, (-1), fb, pn, be, N), (cp, cap, fu, fd, (-1), mb, M, B)) 520 [.ref b, .ref (h 0), .ref (h2 0), .int (nI i)] [] := by
  obtain ⟨⟨x1, x2, x3, x4, x5, x6, x7, x8, ⟨rk, x9⟩, x10⟩, hM, hR, hS⟩ := id hr
  refine j_aload_n C d_L_law_520 (a := h 0) rfl ?_
  refine j_aload_n C d_L_law_521 (a := b) rfl ?_
  refine j_iload_n C d_L_law_522 (x := nI i) rfl ?_
  refine j_iconst C d_L_law_523 (v := nI 1) (by decide) ?_
  refine j_iadd C d_L_law_524 (z := nI (i + 1)) (nI_add _ _) ?_
  refine j_sld C hX hbl hbA (i := i + 1) d_L_law_525 (by omega) (by omega) ?_
  refine j_aload_n C d_L_law_526 (a := b) rfl ?_
  refine j_iload_n C d_L_law_527 (x := nI i) rfl ?_
  refine j_iconst C d_L_law_528 (v := nI 2) (by decide) ?_
  refine j_iadd C d_L_law_529 (z := nI (i + 2)) (nI_add _ _) ?_
  refine j_sld C hX hbl hbA (i := i + 2) d_L_law_530 (by omega) (by omega) ?_
  refine jl_callX C (c_X_couldPrecede l D h cs (rk := rk) x1.2 x3 x5 x7 x9 (by decide) hfb x2 x8 (xs (i + 1)) (xs (i + 2))) (As := [.int (xs (i + 1)), .int (xs (i + 2))]) (rest := []) ok_X_couldPrecede ml_L_84 (by decide) d_L_law_531 rfl rfl rfl (Nat.le_of_ble_eq_true rfl) ?_
  intro r1 u1 hq
  obtain ⟨pn1, be1, rd1, pd1, rfl, hE1⟩ := hq
  refine j_aload_n C d_L_law_534 (a := h2 0) rfl ?_
  refine j_aload_n C d_L_law_535 (a := b) rfl ?_
  refine j_iload_n C d_L_law_536 (x := nI i) rfl ?_
  refine j_iconst C d_L_law_537 (v := nI 1) (by decide) ?_
  refine j_iadd C d_L_law_538 (z := nI (i + 1)) (nI_add _ _) ?_
  refine j_sld C hX hbl hbA (i := i + 1) d_L_law_539 (by omega) (by omega) ?_
  refine j_aload_n C d_L_law_540 (a := b) rfl ?_
  refine j_iload_n C d_L_law_541 (x := nI i) rfl ?_
  refine j_iconst C d_L_law_542 (v := nI 2) (by decide) ?_
  refine j_iadd C d_L_law_543 (z := nI (i + 2)) (nI_add _ _) ?_
  refine j_sld C hX hbl hbA (i := i + 2) d_L_law_544 (by omega) (by omega) ?_
  refine jl_callM C (c_M_couldPrecede l D h2 c2 x3 hM (by decide) hmb x2 (rk := rk) x9.1 (fun a b z => x9.2 a b z.1 z.2.1 (by rw [← hR.2 a b z.1 z.2.1]; exact z.2.2)) (xs (i + 1)) (xs (i + 2))) (As := [.int (xs (i + 1)), .int (xs (i + 2))]) (rest := [.int (r1)]) ok_M_couldPrecede ml_L_87 (by decide) d_L_law_545 rfl rfl rfl (Nat.le_of_ble_eq_true rfl) ?_
  intro r2 u2 hq2
  obtain ⟨fu1, fd1, B1, rfl, hE2⟩ := hq2
  have heq := op_could hr hE1 hE2
  have hr' := hr
  refine j_icmp_eq C d_L_law_548 (tgt := 553) (by decide) rfl rfl (fun _ => ?_) (fun c => absurd (congrArg Int32.toInt heq) c)
  exact kk pr fb pn1 be1 (sc N rd1 pd1) fu1 fd1 mb M B1 hfb hmb hr'
end
section
def lw_P (b : Addr) (xs : List Int32) (args : Array Value) (s : State) : Prop := args = #[.ref b] ∧ s.IntsAt b xs ∧ xs.length ≤ 2562 ∧ (Jvm.Cond.and given_1 narrow_1).before args s = true
def lw_Q (_ : Array Value) (s : State) (o : Outcome) (t : State) : Prop := o = .returned (some (.int 1)) ∧ Framed s o t [] 18 1139
def lw_Z (below : List Frame) (a : Array Value) (s : State) : State → Prop := fun t => ∃ o, t.status = .running ∧ Ended t below o ∧ lw_Q a s o t
/-- the law's own end, with 1 on the stack, nothing written that was there before, its room as the claim has it -/
theorem lw_ret {p : Program} {l : Launch} {e : Env} {s : State} {m : MethodId} {below : List Frame} {meth : Method} {c : Code} {b : Nat} (hx : p.tables.exec = Jvm.exec) (hb : c.code = code) (hr : meth.sig.returnType = ret) (hlocks : meth.locks = false) {pc : Nat} {H : Heap} {ls : Array Slot} (hdg : decode code pc = .ok (.ireturn, 1)) : W p l e room_1 s m #[Value.ref b] below meth c H [] 18 1139 (lw_Z below #[Value.ref b] s) (F0 m pc ls [.int 1]) := by
  intro T hT X
  obtain ⟨fs, hret, hrun, hended, hW, hframe⟩ := X.leave (v := some (.int 1)) (hlocks := hlocks) (fun h => by rw [hr] at h; cases h)
  have hmeth' : T.vm.method? m = some meth := X.method'
  refine ⟨T.setFrames fs, ?_, .returned (some (.int 1)), hrun, hended, rfl, ⟨_, rfl⟩, hW, hframe⟩
  jvm_step X.here [X.here.top, hx, hb, hdg, hmeth', hr, ret, narrow_b1]
  (try refine ⟨rfl, ?_⟩); (try refine ⟨rfl, ?_⟩)
  first | (intro acts; rw [hret _ acts rfl rfl rfl]) | rw [hret _ _ rfl rfl rfl]
  exact Steps.refl _
/-- what holds at the law's entry: the machine, the code, the tables' words (any of lw_tbl by 'hts w (by decide +kernel)'), the script of L ints xs at the cell b, what the Statement gives of the start (any of its parts by flat_of_before) -/
def lw_At (p : Program) (s : State) (m : MethodId) (meth : Method) (c : Code) (b L : Nat) (xs : Nat → Int32) : Prop :=
  p.tables.exec = Jvm.exec ∧ c.code = code ∧ meth.sig.returnType = ret ∧ c.maxLocals = 4 ∧ s.vm.findClass R_law = some m.cls ∧ (∀ w ∈ lw_tbl, w.before #[Value.ref b] s = true) ∧ va_X b L xs s s.heap ∧ b < s.heap.size ∧ meth.locks = false ∧ (Jvm.Cond.and given_1 narrow_1).before #[Value.ref b] s = true
end
section
theorem d_L_cell_0 : decode b_L_cell 0 = .ok (.iload_n 1, 1) := by decide +kernel
theorem d_L_cell_1 : decode b_L_cell 1 = .ok (.aload_n 0, 1) := by decide +kernel
theorem d_L_cell_2 : decode b_L_cell 2 = .ok (.arraylength, 1) := by decide +kernel
theorem d_L_cell_3 : decode b_L_cell 3 = .ok (.if_icmp .ge 9, 3) := by decide +kernel
theorem d_L_cell_6 : decode b_L_cell 6 = .ok (.aload_n 0, 1) := by decide +kernel
theorem d_L_cell_7 : decode b_L_cell 7 = .ok (.iload_n 1, 1) := by decide +kernel
theorem d_L_cell_8 : decode b_L_cell 8 = .ok (.iaload, 1) := by decide +kernel
theorem d_L_cell_9 : decode b_L_cell 9 = .ok (.goto 4, 3) := by decide +kernel
theorem d_L_cell_12 : decode b_L_cell 12 = .ok (.iconst 0, 1) := by decide +kernel
theorem d_L_cell_13 : decode b_L_cell 13 = .ok (.ireturn, 1) := by decide +kernel
set_option maxHeartbeats 4000000 in
set_option maxRecDepth 100000 in
/-- cell(script, k) -/
theorem c_L_cell (l : Launch) (b L : Nat) (xs : Nat → Int32) (hL : L ≤ 2562) (k : Nat) (hk : k ≤ 1) : Met l y_L_cell (Cond.code y_L_cell b_L_cell 2 (some .int) :: wk_tbl) (rmD 0) (fun v U => v = ([.ref b, .int (nI k)] : List Value).toArray ∧ va_X b L xs U U.heap) (vp_Si (fun r => r = if k < L then xs k else 0)) 0 0 (fun _ => False) := by
  refine Met.ofW (cc := b_L_cell) (maxL := 2) (ret := some .int) (by decide) rfl ?_
  intro p e s m args below meth c s₁ B hml hv
  obtain ⟨rfl, hX⟩ := hv
  have hx := B.exec
  have hb := B.bytes
  have hr := B.returns
  have hlocks := B.notSynchronized
  have hbl : b < s.heap.size := by
    obtain ⟨scr, h1, -⟩ := hX
    exact (Array.getElem?_eq_some_iff.mp h1).1
  have hS : va_S (fun _ => False) s.heap s.heap [] := va_S.rf
  have hl := lv_entry ([.ref b, .int (nI k)]) (n := 2) (Nat.le_of_ble_eq_true rfl)
  rw [lg_entry_eq]
  generalize (lg_sl ([.ref b, .int (nI k)]) ++ List.replicate (2 - (lg_sl ([.ref b, .int (nI k)])).length) Slot.unset).toArray = ls at hl ⊢
  have hl : lv_has ls 2 [(0, .ref b), (1, .int (nI k))] := hl
  refine lv_iload_n hx hb d_L_cell_0 rfl (lv_at hl 1 rfl) ?_
  refine lv_aload_n hx hb d_L_cell_1 rfl (lv_at hl 0 rfl) ?_
  refine va_slen hx hb hX hbl (fun z => z) hS d_L_cell_2 ?_
  refine lv_icmp_ge (tgt := 12) hx hb d_L_cell_3 (by decide) (fun c1 => ?_) (fun c1 => ?_)
  · have hkL : ¬ k < L := fun z => absurd c1 (nI_ge z (by omega))
    refine lv_iconst (v := 0) hx hb d_L_cell_12 (by decide) ?_
    exact W.iret (v := 0) hx hb hr (fun t ht hW => ⟨0, rfl, by rw [if_neg hkL], ht⟩) (fun q h => by cases h) d_L_cell_13
  · have hkL : k < L := Nat.not_le.mp fun z => c1 (nI_le z (by omega))
    refine lv_aload_n hx hb d_L_cell_6 rfl (lv_at hl 0 rfl) ?_
    refine lv_iload_n hx hb d_L_cell_7 rfl (lv_at hl 1 rfl) ?_
    refine va_sld hx hb hX hbl (fun z => z) hS (vp_in_nI hkL (by omega)) d_L_cell_8 ?_
    rw [nI_cl (by omega)]
    refine lv_goto (tgt := 13) hx hb d_L_cell_9 (by decide) ?_
    exact W.iret (v := xs k) hx hb hr (fun t ht hW => ⟨xs k, rfl, by rw [if_pos hkL], ht⟩) (fun q h => by cases h) d_L_cell_13
theorem gd_cell : GoodIn wk_tbl (wsS R_law 9 y_L_cell (Cond.code y_L_cell b_L_cell 2 (some .int) :: wk_tbl)) := by
  have key : ∀ w, w ∈ wk_tbl → w ∈ wk_tbl ∧ ((w.onTables && w.keeps) = true ∨ ∃ ty, w = .arrayClass ty) := fun w h => ⟨h, good_tbl w h⟩
  intro w hw
  unfold wsS at hw
  rcases List.mem_append.mp hw with hw | hw
  · simp only [List.mem_cons, List.not_mem_nil, or_false] at hw
    rcases hw with rfl | rfl | rfl
    · exact key _ ml_L_9
    · exact key _ in_st_cell
    · exact key _ in_init_L
  · rcases List.mem_cons.mp hw with rfl | hw
    · exact key _ cd_L_cell
    · exact key _ hw
theorem gd_init {y : MethodName} {cc : ByteArray} {nL : Nat} (h : Cond.code y cc nL none ∈ wk_tbl) : GoodIn wk_tbl (Cond.code y cc nL none :: wk_tbl) := by
  intro w hw
  rcases List.mem_cons.mp hw with rfl | hw
  · exact ⟨h, good_tbl _ h⟩
  · exact ⟨hw, good_tbl _ hw⟩
section LWS
variable {p : Program} {l : Launch} {e : Env} {s : State} {m : MethodId} {below : List Frame} {meth : Method} {c : Code} {H : Heap} {locs : List Loc} {cells slots : Nat} {Q : State → Prop} {b L : Nat} {xs : Nat → Int32} {ls : Array Slot} {pc : Nat} {st rest : List Value}
/-- a call of cell in the law -/
theorem lw_cell (hL : L ≤ 2562) (hx : p.tables.exec = Jvm.exec) (hb : c.code = code) (hml : c.maxLocals = 4) (hown : s.vm.findClass R_law = some m.cls) (hts : ∀ w ∈ wk_tbl, w.before #[Value.ref b] s = true) (hX : va_X b L xs s s.heap) (hbl : b < s.heap.size) (hS : va_S (fun q : Nat => s.heap.size ≤ q) s.heap H locs) (hlsz : ls.size = 4) (k : Nat) (hk : k ≤ 1) (hst : st = .int (nI k) :: .ref b :: rest) (hroom : (rest.map fun v => v.category).sum ≤ 8) (hdg : decode code pc = .ok (.invokestatic 9, 3)) (hcs : cells ≤ 18 ∧ slots ≤ 1139)
    (kk : W p l e room_1 s m #[Value.ref b] below meth c H locs cells slots Q (F0 m (pc + 3) ls (.int (if k < L then xs k else 0) :: rest))) : W p l e room_1 s m #[Value.ref b] below meth c H locs cells slots Q (F0 m pc ls st) := by
  subst hst
  have hXH : va_X b L xs s H := hX.kept (hS.2.1 b hbl (Nat.not_le.mpr hbl))
  refine vp_callSi (W.runS (As := [.ref b, .int (nI k)]) (rest := rest) ⟨hx, hb, hml, hown, hts⟩ (c_L_cell l b L xs hL k hk) (cwS 2 hts gd_cell rfl rfl rfl (by decide +kernel) ⟨Nat.le_of_ble_eq_true rfl, Nat.le_of_ble_eq_true rfl⟩) ⟨fun a U g mk q => ⟨q.1, va_X.moved (u := U) (U := U.calling g mk a) (Vm.Alike.refl U.vm) q.2⟩, fun U hU hW => ⟨rfl, by rw [hU]; exact va_X.moved hW.alike hXH⟩⟩ rfl rfl hlsz rfl (lv_room hroom) hdg ⟨hcs.1, hcs.2⟩) (fun r hr => ?_)
  subst hr
  exact kk
end LWS
set_option maxHeartbeats 4000000 in
set_option maxRecDepth 100000 in
/-- THE LAW'S LOOP -/
theorem lw_loop {l : Launch} {D : va_G} {h h2 : Nat → Nat} {cs c2 : Nat → ClassId} {K : Kc} (C : Kok D (tysX cs ++ tysM c2) K code 4 R_law 9) {b L : Nat} {xs : Nat → Int32} (hX : va_X b L xs K.1.2.2.2 K.1.2.2.2.heap) (hbl : b < K.1.2.2.2.heap.size) (hbA : ¬ K.2.2.1 b) (hL : L ≤ 2562) (hend : ∀ u i, J l D K (wL h cs h2 c2) u 559 [.ref b, .ref (h 0), .ref (h2 0), .int (nI i)] []) {cp : Nat} {cap : Int} : ∀ n i, L + 3 ≤ i + n → i ≤ L + 2 → ∀ pr fb pn be N fu fd mb M B, fb ≤ 60 → mb ≤ 60 → REL cp cap pr N M → J l D K (wL h cs h2 c2) ((cp, cap, pr, (-1), fb, pn, be, N), (cp, cap, fu, fd, (-1), mb, M, B)) 38 [.ref b, .ref (h 0), .ref (h2 0), .int (nI i)] [] := by
  intro n
  induction n with
  | zero => intro i h1 h2 ; omega
  | succ n ih =>
    intro i hin hi2 pr fb pn be N fu fd mb M B hfb hmb hr
    refine j_iload_n C d_L_law_38 (x := nI i) rfl ?_
    refine j_aload_n C d_L_law_39 (a := b) rfl ?_
    refine j_slen C hX hbl hbA d_L_law_40 ?_
    refine j_iconst C d_L_law_41 (v := nI 5) (by decide) ?_
    refine j_isub C d_L_law_42 (z := iI ((L : Int) - ((5 : Nat) : Int))) (nI_subI _ _) ?_
    refine j_icmp_gt C d_L_law_43 (tgt := 559) (by decide) (tI i (by omega)) (iI_toInt (z := (L : Int) - ((5 : Nat) : Int)) (by omega) (by omega)) (fun _ => hend _ i) (fun c1 => ?_)
    have hi : i + 4 < L := by omega
    have hnext : ∀ pr fb pn be N fu fd mb M B, fb ≤ 60 → mb ≤ 60 → REL cp cap pr N M → J l D K (wL h cs h2 c2) ((cp, cap, pr, (-1), fb, pn, be, N), (cp, cap, fu, fd, (-1), mb, M, B)) 553 [.ref b, .ref (h 0), .ref (h2 0), .int (nI i)] [] := by
      intro pr fb pn be N fu fd mb M B hfb hmb hr
      refine j_iinc C d_L_law_553 (Nat.le_of_ble_eq_true rfl) (x := nI i) (v := nI (i + 5)) rfl (nI_add _ _) (L' := [.ref b, .ref (h 0), .ref (h2 0), .int (nI (i + 5))]) rfl ?_
      refine j_goto C d_L_law_556 (tgt := 38) (by decide) ?_
      exact ih (i + 5) (by omega) (by omega) pr fb pn be N fu fd mb M B hfb hmb hr
    refine j_aload_n C d_L_law_46 (a := b) rfl ?_
    refine j_iload_n C d_L_law_47 (x := nI i) rfl ?_
    refine j_sld C hX hbl hbA (i := i) d_L_law_48 (by omega) (by omega) ?_
    refine j_bipush C d_L_law_49 (v := nI 15) (by decide) ?_
    obtain ⟨j, hj, hje⟩ := nI_and15 (xs i)
    refine j_iand C d_L_law_51 (z := nI j) hje ?_
    have hc : j = 0 ∨ j = 1 ∨ j = 2 ∨ j = 3 ∨ j = 4 ∨ j = 5 ∨ j = 6 ∨ j = 7 ∨ j = 8 ∨ j = 9 ∨ j = 10 ∨ j = 11 ∨ j = 12 ∨ j = 13 ∨ j = 14 ∨ j = 15 := by omega
    rcases hc with rfl | rfl | rfl | rfl | rfl | rfl | rfl | rfl | rfl | rfl | rfl | rfl | rfl | rfl | rfl | rfl
    · exact j_tin C d_L_law_52 (a := 0) (by decide) (by decide) (by decide) (off := 76) rfl (tgt := 128) (by decide) (lw_case_0 C hX hbl hbA hL hi hfb hmb hr hnext)
    · exact j_tin C d_L_law_52 (a := 1) (by decide) (by decide) (by decide) (off := 109) rfl (tgt := 161) (by decide) (lw_case_1 C hX hbl hbA hL hi hfb hmb hr hnext)
    · exact j_tin C d_L_law_52 (a := 2) (by decide) (by decide) (by decide) (off := 152) rfl (tgt := 204) (by decide) (lw_case_2 C hX hbl hbA hL hi hfb hmb hr hnext)
    · exact j_tin C d_L_law_52 (a := 3) (by decide) (by decide) (by decide) (off := 205) rfl (tgt := 257) (by decide) (lw_case_3 C hX hbl hbA hL hi hfb hmb hr hnext)
    · exact j_tin C d_L_law_52 (a := 4) (by decide) (by decide) (by decide) (off := 238) rfl (tgt := 290) (by decide) (lw_case_4 C hX hbl hbA hL hi hfb hmb hr hnext)
    · exact j_tin C d_L_law_52 (a := 5) (by decide) (by decide) (by decide) (off := 271) rfl (tgt := 323) (by decide) (lw_case_5 C hX hbl hbA hL hi hfb hmb hr hnext)
    · exact j_tin C d_L_law_52 (a := 6) (by decide) (by decide) (by decide) (off := 294) rfl (tgt := 346) (by decide) (lw_case_6 C hX hbl hbA hL hi hfb hmb hr hnext)
    · exact j_tin C d_L_law_52 (a := 7) (by decide) (by decide) (by decide) (off := 307) rfl (tgt := 359) (by decide) (lw_case_7 C hX hbl hbA hL hi hfb hmb hr hnext)
    · exact j_tin C d_L_law_52 (a := 8) (by decide) (by decide) (by decide) (off := 340) rfl (tgt := 392) (by decide) (lw_case_8 C hX hbl hbA hL hi hfb hmb hr hnext)
    · exact j_tin C d_L_law_52 (a := 9) (by decide) (by decide) (by decide) (off := 373) rfl (tgt := 425) (by decide) (lw_case_9 C hX hbl hbA hL hi hfb hmb hr hnext)
    · exact j_tin C d_L_law_52 (a := 10) (by decide) (by decide) (by decide) (off := 386) rfl (tgt := 438) (by decide) (lw_case_10 C hX hbl hbA hL hi hfb hmb hr hnext)
    · exact j_tin C d_L_law_52 (a := 11) (by decide) (by decide) (by decide) (off := 409) rfl (tgt := 461) (by decide) (lw_case_11 C hX hbl hbA hL hi hfb hmb hr hnext)
    · exact j_tin C d_L_law_52 (a := 12) (by decide) (by decide) (by decide) (off := 422) rfl (tgt := 474) (by decide) (lw_case_12 C hX hbl hbA hL hi hfb hmb hr hnext)
    · exact j_tin C d_L_law_52 (a := 13) (by decide) (by decide) (by decide) (off := 445) rfl (tgt := 497) (by decide) (lw_case_13 C hX hbl hbA hL hi hfb hmb hr hnext)
    · exact j_tin C d_L_law_52 (a := 14) (by decide) (by decide) (by decide) (off := 468) rfl (tgt := 520) (by decide) (lw_case_14 C hX hbl hbA hL hi hfb hmb hr hnext)
    · exact j_tout C d_L_law_52 (a := 15) (by decide) (Or.inr (by decide)) (tgt := 553) (by decide) (hnext pr fb pn be N fu fd mb M B hfb hmb hr)
end
section
set_option maxHeartbeats 4000000 in
set_option maxRecDepth 100000 in
/-- THE LAW, from its entry -/
theorem whole_start {p : Program} {e : Env} {s : State} {m : MethodId} {below : List Frame} {meth : Method} {c : Code} (l : Launch) {b L : Nat} {xs : Nat → Int32} (hL : L ≤ 2562) (C0 : lw_At p s m meth c b L xs) : W p l e room_1 s m #[Value.ref b] below meth c s.heap [] 0 0 (lw_Z below #[Value.ref b] s) (entryFrame m ([Value.ref b] : List Value).toArray 4) := by
  obtain ⟨hx, hb, hr, hml, hown, hts0, hX, hbl, hlocks, hgv⟩ := id C0
  have hts : ∀ w ∈ wk_tbl, w.before #[Value.ref b] s = true := fun w h => hts0 w (wk_sub h)
  have hA : ∀ q : Nat, s.heap.size ≤ q → (fun q : Nat => s.heap.size ≤ q) q := fun _ h => h
  have hbA : ¬ (fun q : Nat => s.heap.size ≤ q) b := Nat.not_le.mpr hbl
  obtain ⟨c0, iS0, hKn0⟩ := u_known (C := R_X) (T := F_X) (N := 15) (n := 15) hts i_X (hts _ in_ins_X)
  obtain ⟨c1, iS1, hKn1⟩ := u_known (C := R_M) (T := F_M) (N := 14) (n := 14) hts i_M (hts _ in_ins_M)
  obtain ⟨D, hKc⟩ : ∃ D : va_G, ∀ (k : Nat) (q : vw_C), classes[k]? = some q → u_Kn s q.1 q.2.1 q.2.2 (D.1 k) (D.2 k) := by
    refine ⟨(fun k => if k = 0 then c0 else c1, fun k => if k = 0 then iS0 else iS1), ?_⟩
    intro k q hq
    match k, hq with
    | 0, hq => cases hq; exact hKn0
    | 1, hq => cases hq; exact hKn1
    | k + 2, hq => simp [classes] at hq
  have hS : va_S (fun q : Nat => s.heap.size ≤ q) s.heap s.heap [] := va_S.rf
  have hK : va_K D classes [] s := ⟨hKc, fun k q h => by simp at h⟩
  have hP : va_P D classes [] s.heap := fun k q h => by simp at h
  have hD : va_D (fun q : Nat => s.heap.size ≤ q) [] := ⟨fun i j p q h => by simp at h, fun k q h => by simp at h⟩
  have hl := lv_entry ([.ref b]) (n := 4) (Nat.le_of_ble_eq_true rfl)
  rw [lg_entry_eq]
  generalize (lg_sl ([.ref b]) ++ List.replicate (4 - (lg_sl ([.ref b])).length) Slot.unset).toArray = ls at hl ⊢
  have hl : lv_has ls 4 [(0, .ref b)] := hl
  obtain ⟨r0, hr0⟩ : ∃ r0 : Int32, r0 = if 0 < L then xs 0 else 0 := ⟨_, rfl⟩
  obtain ⟨r1, hr1⟩ : ∃ r1 : Int32, r1 = if 1 < L then xs 1 else 0 := ⟨_, rfl⟩
  refine va_new (ci := 0) (fs := fs0X) (C := R_X) (T := F_X) (N := 15) hx hb hts i_X t_X t_X_ok hown (hts _ in_cl_X) (hts _ in_ins_X) (hts _ in_init_X) hK hP hD hS hA rfl (fun j hj => by rcases (show j = 0 ∨ j = 1 ∨ j = 2 ∨ j = 3 ∨ j = 4 ∨ j = 5 ∨ j = 6 ∨ j = 7 ∨ j = 8 ∨ j = 9 ∨ j = 10 ∨ j = 11 ∨ j = 12 ∨ j = 13 ∨ j = 14 by omega) with rfl | rfl | rfl | rfl | rfl | rfl | rfl | rfl | rfl | rfl | rfl | rfl | rfl | rfl | rfl <;> rfl) (Nat.le_of_ble_eq_true rfl) (Nat.le_of_ble_eq_true rfl) d_L_law_0 (fun qx H hP hD hS => ?_)
  have hP : va_P D classes [(qx, .inr (0, fs0X))] H := hP
  have hD : va_D (fun q : Nat => s.heap.size ≤ q) [(qx, .inr (0, fs0X))] := hD
  refine W.widen (k := 1) (n := 15) (Nat.le_of_ble_eq_true rfl) (Nat.le_of_ble_eq_true rfl) ?_
  refine lv_dup hx hb d_L_law_3 rfl ?_
  refine lv_aload_n hx hb d_L_law_4 rfl (lv_at hl 0 rfl) ?_
  refine lv_iconst (v := nI 0) hx hb d_L_law_5 (by decide) ?_
  refine lw_cell hL hx hb hml hown hts hX hbl hS hl.1 0 (by omega) rfl (Nat.le_of_ble_eq_true rfl) d_L_law_6 ⟨Nat.le_of_ble_eq_true rfl, Nat.le_of_ble_eq_true rfl⟩ ?_
  rw [← hr0]
  refine lv_aload_n hx hb d_L_law_9 rfl (lv_at hl 0 rfl) ?_
  refine lv_iconst (v := nI 1) hx hb d_L_law_10 (by decide) ?_
  refine lw_cell hL hx hb hml hown hts hX hbl hS hl.1 1 (by omega) rfl (Nat.le_of_ble_eq_true rfl) d_L_law_11 ⟨Nat.le_of_ble_eq_true rfl, Nat.le_of_ble_eq_true rfl⟩ ?_
  rw [← hr1]
  have hFc := va_free (wc := [(qx, .inr (0, fs0X))]) hD hS hA [0] rfl
  refine va_callv (va_runI (As := [.int r0, .int r1]) (rest := [.ref qx]) ⟨hx, hb, hml, hown, hts⟩ (c_X_init l D qx H.size r0 r1) (cwI 2 hts (gd_init cd_X_init) rfl rfl rfl (hts _ in_init_X) (hts _ ml_L_15) (hts _ in_im_X) rfl (by decide +kernel) ⟨Nat.le_of_ble_eq_true rfl, Nat.le_of_ble_eq_true rfl⟩) ⟨fun a U g mk q => by obtain ⟨q0, q1, qP, qK, qD⟩ := q; exact ⟨q0, q1, qP, va_K.moved (u := U) (U := U.calling g mk a) (Vm.Alike.refl U.vm) qK, qD⟩, fun U hU hW => ⟨rfl, by rw [hU], by rw [hU]; exact hP, va_K.moved hW.alike hK, hD.weaken (fun _ _ _ _ => trivial)⟩⟩ rfl rfl hl.1 rfl (lv_room (Nat.le_of_ble_eq_true rfl)) d_L_law_14 ⟨Nat.le_of_ble_eq_true rfl, Nat.le_of_ble_eq_true rfl⟩) hS (fun q _ h => hFc q h) hFc (fun u t H1 locs ht hvm hw hB hz1 hk1 hS => ?_)
  obtain ⟨h, cs⟩ := u
  obtain ⟨hP1, hK1, hD1⟩ := hB
  rw [ht] at hP1
  have hK1 := va_K.moved hvm.symm hK1
  have hw : h 0 = qx := hw
  obtain ⟨hP, hD⟩ := va_join (wr := []) (w1 := wX h cs (clC r0, clK r1, 0, (-1), 0, 0, 0, fun _ _ => 0)) hP hD [0] [] rfl rfl (by decide) (by decide) hk1 hFc hP1 hD1
  generalize H1 = H at hP hS ⊢
  have hP : va_P D classes (wX h cs (clC r0, clK r1, 0, (-1), 0, 0, 0, fun _ _ => 0)) H := hP
  have hD : va_D (fun q : Nat => s.heap.size ≤ q) (wX h cs (clC r0, clK r1, 0, (-1), 0, 0, 0, fun _ _ => 0)) := hD
  have hK : va_K D classes (tysX cs) s := hK1
  refine W.widen (k := 9) (n := 66) (Nat.le_of_ble_eq_true rfl) (Nat.le_of_ble_eq_true rfl) ?_
  refine lv_astore_n (lv' := [(1, .ref qx), (0, .ref b)]) hx hb d_L_law_17 rfl hl (by decide) rfl (fun ls hl => ?_)
  refine va_new (ci := 1) (fs := fs0M) (C := R_M) (T := F_M) (N := 14) hx hb hts i_M t_M t_M_ok hown (hts _ in_cl_M) (hts _ in_ins_M) (hts _ in_init_M) hK hP hD hS hA rfl (fun j hj => by rcases (show j = 0 ∨ j = 1 ∨ j = 2 ∨ j = 3 ∨ j = 4 ∨ j = 5 ∨ j = 6 ∨ j = 7 ∨ j = 8 ∨ j = 9 ∨ j = 10 ∨ j = 11 ∨ j = 12 ∨ j = 13 by omega) with rfl | rfl | rfl | rfl | rfl | rfl | rfl | rfl | rfl | rfl | rfl | rfl | rfl | rfl <;> rfl) (Nat.le_of_ble_eq_true rfl) (Nat.le_of_ble_eq_true rfl) d_L_law_18 (fun qm H hP hD hS => ?_)
  have hP : va_P D classes (wX h cs (clC r0, clK r1, 0, (-1), 0, 0, 0, fun _ _ => 0) ++ [(qm, .inr (1, fs0M))]) H := hP
  have hD : va_D (fun q : Nat => s.heap.size ≤ q) (wX h cs (clC r0, clK r1, 0, (-1), 0, 0, 0, fun _ _ => 0) ++ [(qm, .inr (1, fs0M))]) := hD
  refine W.widen (k := 10) (n := 80) (Nat.le_of_ble_eq_true rfl) (Nat.le_of_ble_eq_true rfl) ?_
  refine lv_dup hx hb d_L_law_21 rfl ?_
  refine lv_aload_n hx hb d_L_law_22 rfl (lv_at hl 1 rfl) ?_
  refine lv_iconst (v := nI 0) hx hb d_L_law_23 (by decide) ?_
  refine lw_cell hL hx hb hml hown hts hX hbl hS hl.1 0 (by omega) rfl (Nat.le_of_ble_eq_true rfl) d_L_law_24 ⟨Nat.le_of_ble_eq_true rfl, Nat.le_of_ble_eq_true rfl⟩ ?_
  rw [← hr0]
  refine lv_aload_n hx hb d_L_law_27 rfl (lv_at hl 1 rfl) ?_
  refine lv_iconst (v := nI 1) hx hb d_L_law_28 (by decide) ?_
  refine lw_cell hL hx hb hml hown hts hX hbl hS hl.1 1 (by omega) rfl (Nat.le_of_ble_eq_true rfl) d_L_law_29 ⟨Nat.le_of_ble_eq_true rfl, Nat.le_of_ble_eq_true rfl⟩ ?_
  rw [← hr1]
  have hPc := hP.sub (ws' := [(qm, .inr (1, fs0M))]) [9] rfl
  have hDc := hD.sub (ws' := [(qm, .inr (1, fs0M))]) [9] (by decide) rfl
  have hKc := hK.sub (tys' := []) [] rfl
  have hFc := va_free (wc := [(qm, .inr (1, fs0M))]) hD hS hA [9] rfl
  refine va_callv (va_runI (As := [.int r0, .int r1]) (rest := [.ref qm]) ⟨hx, hb, hml, hown, hts⟩ (c_M_init l D qm H.size r0 r1) (cwI 2 hts (gd_init cd_M_init) rfl rfl rfl (hts _ in_init_M) (hts _ ml_L_20) (hts _ in_im_M) rfl (by decide +kernel) ⟨Nat.le_of_ble_eq_true rfl, Nat.le_of_ble_eq_true rfl⟩) ⟨fun a U g mk q => by obtain ⟨q0, q1, qP, qK, qD⟩ := q; exact ⟨q0, q1, qP, va_K.moved (u := U) (U := U.calling g mk a) (Vm.Alike.refl U.vm) qK, qD⟩, fun U hU hW => ⟨rfl, by rw [hU], by rw [hU]; exact hPc, va_K.moved hW.alike hKc, hDc.weaken (fun _ _ _ _ => trivial)⟩⟩ rfl rfl hl.1 rfl (lv_room (Nat.le_of_ble_eq_true rfl)) d_L_law_32 ⟨Nat.le_of_ble_eq_true rfl, Nat.le_of_ble_eq_true rfl⟩) hS (fun q _ h => hFc q h) hFc (fun u t H1 locs ht hvm hw2 hB hz1 hk1 hS => ?_)
  obtain ⟨h2, c2⟩ := u
  obtain ⟨hP1, hK1, hD1⟩ := hB
  rw [ht] at hP1
  have hK1 := va_K.moved hvm.symm hK1
  have hw2 : h2 0 = qm := hw2
  obtain ⟨hP, hD⟩ := va_join (wr := wX h cs (clC r0, clK r1, 0, (-1), 0, 0, 0, fun _ _ => 0)) (w1 := wM h2 c2 (clC r0, clK r1, 0, 0, (-1), 0, (fun _ _ => 0), fun _ => 0)) hP hD [9] [0, 1, 2, 3, 4, 5, 6, 7, 8] rfl rfl (by decide) (by decide) hk1 hFc hP1 hD1
  have hK : va_K D classes (tysX cs ++ tysM c2) s := (hK.sub (tys' := tysX cs) [0, 1, 2, 3, 4, 5, 6, 7] rfl).app hK1
  generalize H1 = H at hP hS ⊢
  refine W.widen (k := 18) (n := 1139) (Nat.le_of_ble_eq_true rfl) (Nat.le_of_ble_eq_true rfl) ?_
  refine lv_astore_n (lv' := [(2, .ref qm), (1, .ref qx), (0, .ref b)]) hx hb d_L_law_35 rfl hl (by decide) rfl (fun ls hl => ?_)
  refine lv_iconst (v := nI 2) hx hb d_L_law_36 (by decide) ?_
  refine lv_istore_n (lv' := [(3, .int (nI 2)), (2, .ref qm), (1, .ref qx), (0, .ref b)]) hx hb d_L_law_37 rfl hl (by decide) rfl (fun ls hl => ?_)
  have hlh : lh ls c.maxLocals [.ref b, .ref (h 0), .ref (h2 0), .int (nI 2)] := by
    rw [hml, hw, hw2]
    exact ⟨lv_sub hl [3, 2, 1, 0] rfl, cat_all rfl⟩
  have key : J l D ((p, e, room_1, s), (m, #[Value.ref b], below, meth, c), (fun q : Nat => s.heap.size ≤ q), 18, 1139, lw_Z below #[Value.ref b] s) (wL h cs h2 c2) ((clC r0, clK r1, 0, (-1), 0, 0, 0, fun _ _ => 0), (clC r0, clK r1, 0, 0, (-1), 0, (fun _ _ => 0), fun _ => 0)) 38 [.ref b, .ref (h 0), .ref (h2 0), .int (nI 2)] [] := by
    refine lw_loop (l := l) (D := D) (h := h) (h2 := h2) (cs := cs) (c2 := c2) ⟨hx, hb, hml, hown, hts, hK, hA, ⟨Nat.le_of_ble_eq_true rfl, Nat.le_of_ble_eq_true rfl⟩, ⟨Nat.le_refl _, Nat.le_refl _⟩⟩ hX hbl hbA hL (fun u i => ?_) (L + 1) 2 (by omega) (by omega) 0 0 0 0 (fun _ _ => 0) 0 0 0 (fun _ _ => 0) (fun _ => 0) (by omega) (by omega) (rel_0 (clC_bd r0) (clK_bd r1))
    intro H locs ls hP hD hS hl
    refine lv_iconst (v := 1) hx hb d_L_law_559 (by decide) ?_
    refine va_forget (fun q hq => hS.2.2 q hq) ?_
    exact lw_ret hx hb hr hlocks d_L_law_560
  exact key H locs ls hP hD hS hlh
end
section
set_option maxHeartbeats 4000000 in
theorem lw_walk (l : Launch) (b : Addr) (xs : List Int32) : MetFree l x (headSpec (Jvm.Cond.code x code maxLocals ret :: tables_1) room_1) (lw_P b xs) (fun _ _ _ _ _ => True) lw_Q := by
  refine MetFree.of_bodyS (code := code) (maxLocals := maxLocals) (ret := ret) (by decide) ?_ ?_
  · intro args s m h hn
    obtain ⟨meth, c, h1, h2, h3, h4, h5, h6, -, -⟩ := Cond.code_spec hn (atoms_spec (ws := Jvm.Cond.code x code maxLocals ret :: tables_1) h _ List.mem_cons_self)
    exact ⟨meth, c, h1, h2, h3, h4, h5, h6⟩
  · intro p e s m args below meth c s₁ B hml0 hP _
    obtain ⟨rfl, hx, hbd, hgv⟩ := hP
    obtain ⟨scr, harrAt, hlist, hof, hsmall⟩ := hx
    obtain ⟨hcb, hkn, -, -⟩ := State.arrayAt?_spec harrAt
    have hown : s.vm.findClass R_law = some m.cls := findClass_of_methodNamed B.named
    have hts0 : ∀ c ∈ (Jvm.Cond.code x code maxLocals ret :: tables_1), c.before #[Value.ref b] s = true := atoms_spec (ws := Jvm.Cond.code x code maxLocals ret :: tables_1) B.pre
    have hts : ∀ w ∈ lw_tbl, w.before #[Value.ref b] s = true := k2_hts_sels lw_privs (fun w hw => hts0 w (List.mem_cons_of_mem _ hw)) lw_privs_ok
    have hml : c.maxLocals = 4 := B.maxLocals_eq (hts0 _ List.mem_cons_self)
    have X₀ : Stand p l e room_1 s m #[Value.ref b] below meth c s₁ [] 0 0 := Stand.of_body B
    have hh0 : s₁.heap = s.heap := by rw [B.state]; rfl
    have hsz : scr.slots.size = xs.length := by rw [← Array.length_toList, hlist, List.length_map]
    have hval : ∀ j : Nat, j < xs.length → scr.slots[j]? = some (.int (xs.getD j 0)) := fun j hj => by
      rw [← Array.getElem?_toList, hlist]
      simp [hj]
    have hbl : b < s.heap.size := (Array.getElem?_eq_some_iff.mp hcb).1
    have hX : va_X b xs.length (fun j => xs.getD j 0) s s.heap := ⟨scr, hcb, hof, hkn, hsz, hval⟩
    have K : W p l e room_1 s m #[Value.ref b] below meth c s₁.heap [] 0 0 (lw_Z below #[Value.ref b] s) (entryFrame m ([Value.ref b] : List Value).toArray 4) := by
      rw [hh0]
      exact whole_start l hbd ⟨B.exec, B.bytes, B.returns, hml, hown, hts, hX, hbl, B.notSynchronized, hgv⟩
    obtain ⟨t, a1, o, b1, b2, b3⟩ := K s₁ rfl X₀
    exact ⟨t, o, a1, b1, b2, b3⟩
theorem lw_pre_spec {args : Array Value} {s : State} (h : (Jvm.Cond.and given_1 narrow_1).before args s = true) (hr : rest_1_c.before args s = true) : ∃ (b : Addr) (xs : List Int32), lw_P b xs args s := by
  have hs := flat_of_before _ h
  have hq := flat_of_before _ hr
  have hc : (Cond.count 1).before args s = true := hs _ (by decide +kernel)
  have harr : (Cond.arrayOf (.arg 0) .int).before args s = true := hs _ (by decide +kernel)
  have hle : (Cond.le (.length (.arg 0)) (.int 2562)).before args s = true := hs _ (by decide +kernel)
  have hlen : (Cond.isInt (.length (.arg 0))).before args s = true := hq _ (by decide +kernel)
  have hall : (Cond.all (.arg 0) (.isInt (.elem (.arg 0) (.index 0)))).before args s = true := hq _ (by decide +kernel)
  obtain ⟨b, xs, hb, hx⟩ := State.ints_of_pre rfl harr hlen hall
  have hsm : xs.length < 2 ^ 31 := hx.choose_spec.2.2.2
  have hev : (Term.length (.arg 0)).eval args s none [] s = some (.int xs.length.toInt32) := hx.length_eval hb
  have hv := Cond.le_ints hev (show (Term.int 2562).eval args s none [] s = some (.int 2562) from rfl)
  have hd : xs.length.toInt32 ≤ 2562 := by
    simpa [Cond.before, Cond.holds, hv] using hle
  have hN : xs.length ≤ 2562 := (Int32.ofNat_le_ofNat hsm (by decide)).mp (show Int32.ofNat xs.length ≤ Int32.ofNat 2562 from hd)
  exact ⟨b, xs, Cond.one_arg hc (show args[0]? = some (.ref b) from hb), hx, hN, h⟩
theorem lw_comes (l : Launch) : Comes l x (Jvm.Cond.code x code maxLocals ret :: tables_1) room_1 (fun tb e args s => Calls_1 tb e args s ∧ rest_1 tb e args s ∧ Pre_1 tb e args s)
    (fun _ _ args s o t => lw_Q args s o t) := by
  intro p e ha hc hk s m args below hf hfit hheap happ hpre
  obtain ⟨b, xs, hP⟩ := lw_pre_spec hpre.2.2 hpre.2.1
  obtain ⟨k, o, h1, h2, h3, hQ⟩ := lw_walk l b xs p e ha hc hk s m args below hf ((Spec.applies_iff_loose hf).mp happ).1 hP trivial
  exact ⟨k, o, h1, h2, h3, hQ⟩
theorem lw_frame {s t : State} {o : Outcome} {args : Array Value} (h : Framed s o t [] 18 1139) :
    Framed s o t (fieldLocs frame_1_writes args s ++ arrayLocs frame_1_arrays args s ++ staticLocs frame_1_statics s) 18 1139 := h
theorem lw_limb (L : Cond) (hL : ∀ (args : Array Value) (s t : State), L.after args s (.returned (some (.int 1))) t = true) :
    ArmFor flags0 classFile x code maxLocals ret World_1 tables_1 room_1 Calls_1 rest_1 Pre_1
      (fun tb e a s o t => postC L tb e a s o t ∧ Framed s o t (fieldLocs frame_1_writes a s ++ arrayLocs frame_1_arrays a s ++ staticLocs frame_1_statics s) 18 1139) := by
  intro l _ _ _ p e ha hc hk s m args below hf hfit hheap happ hpre
  obtain ⟨k, o, h1, h2, h3, rfl, hF⟩ := lw_comes l p e ha hc hk s m args below hf hfit hheap happ hpre
  exact ⟨k, _, h1, h2, h3, hL args s _, lw_frame hF⟩
theorem i_vc : Claimed_1_1 ∧ Claimed_1_2 := ⟨lw_limb limb_1_1 (fun args s t => by simp [limb_1_1, Cond.after, Cond.holds, Cond.value]), lw_limb limb_1_2 (fun args s t => Cond.after_iff.mpr (by
  first | (rw [show limb_1_2 = Cond.eq .result (.int 1) from rfl, Cond.eq_ints (x := 1) (y := 1) rfl rfl]; simp; done) | (simp [limb_1_2, Cond.value, Term.eval]; done)))⟩
end
