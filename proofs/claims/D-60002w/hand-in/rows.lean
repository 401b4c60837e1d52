section
-- ===== PART A: goes FIRST, ahead of the names: the tables' words, and 'selects' of the private methods out of them =====
/-- a private method of a class that the tables say can be made, by its rows of tables_1 -/
def lw_okq (q : MethodName × Nat) : Prop := (q.1.cls ≠ "java/lang/invoke/MethodHandle" ∧ q.1.cls ≠ "java/lang/invoke/VarHandle") ∧ Cond.instantiable q.1.cls q.2 ∈ tables_1 ∧ Cond.privateMethod q.1 ∈ tables_1 ∧ Cond.instanceMethod q.1 ∈ tables_1
theorem lw_p0 : lw_okq (⟨"EqualJobPlanner", "windowOk", "(II)Z"⟩, 16) := ⟨⟨by decide +kernel, by decide +kernel⟩, List.mem_of_getElem? (i := 4) (by decide +kernel), List.mem_of_getElem? (i := 71) (by decide +kernel), List.mem_of_getElem? (i := 72) (by decide +kernel)⟩
theorem lw_p1 : lw_okq (⟨"EqualJobPlanner", "freeNumber", "()I"⟩, 16) := ⟨⟨by decide +kernel, by decide +kernel⟩, List.mem_of_getElem? (i := 4) (by decide +kernel), List.mem_of_getElem? (i := 75) (by decide +kernel), List.mem_of_getElem? (i := 76) (by decide +kernel)⟩
theorem lw_p2 : lw_okq (⟨"EqualJobPlanner", "askAll", "()V"⟩, 16) := ⟨⟨by decide +kernel, by decide +kernel⟩, List.mem_of_getElem? (i := 4) (by decide +kernel), List.mem_of_getElem? (i := 79) (by decide +kernel), List.mem_of_getElem? (i := 80) (by decide +kernel)⟩
theorem lw_p3 : lw_okq (⟨"EqualJobPlanner", "askAllBut", "(I)V"⟩, 16) := ⟨⟨by decide +kernel, by decide +kernel⟩, List.mem_of_getElem? (i := 4) (by decide +kernel), List.mem_of_getElem? (i := 83) (by decide +kernel), List.mem_of_getElem? (i := 84) (by decide +kernel)⟩
theorem lw_p4 : lw_okq (⟨"EqualJobPlanner", "askPinned", "(II)V"⟩, 16) := ⟨⟨by decide +kernel, by decide +kernel⟩, List.mem_of_getElem? (i := 4) (by decide +kernel), List.mem_of_getElem? (i := 87) (by decide +kernel), List.mem_of_getElem? (i := 88) (by decide +kernel)⟩
theorem lw_p5 : lw_okq (⟨"EqualJobPlanner", "ask", "(II)V"⟩, 16) := ⟨⟨by decide +kernel, by decide +kernel⟩, List.mem_of_getElem? (i := 4) (by decide +kernel), List.mem_of_getElem? (i := 91) (by decide +kernel), List.mem_of_getElem? (i := 92) (by decide +kernel)⟩
theorem lw_p6 : lw_okq (⟨"EqualJobPlanner", "feasible", "()Z"⟩, 16) := ⟨⟨by decide +kernel, by decide +kernel⟩, List.mem_of_getElem? (i := 4) (by decide +kernel), List.mem_of_getElem? (i := 95) (by decide +kernel), List.mem_of_getElem? (i := 96) (by decide +kernel)⟩
theorem lw_p7 : lw_okq (⟨"EqualJobPlanner", "shutBlocks", "()V"⟩, 16) := ⟨⟨by decide +kernel, by decide +kernel⟩, List.mem_of_getElem? (i := 4) (by decide +kernel), List.mem_of_getElem? (i := 99) (by decide +kernel), List.mem_of_getElem? (i := 100) (by decide +kernel)⟩
theorem lw_p8 : lw_okq (⟨"EqualJobPlanner", "shutBetween", "(II)V"⟩, 16) := ⟨⟨by decide +kernel, by decide +kernel⟩, List.mem_of_getElem? (i := 4) (by decide +kernel), List.mem_of_getElem? (i := 103) (by decide +kernel), List.mem_of_getElem? (i := 104) (by decide +kernel)⟩
theorem lw_p9 : lw_okq (⟨"EqualJobPlanner", "greatestReleaseBelow", "(I)I"⟩, 16) := ⟨⟨by decide +kernel, by decide +kernel⟩, List.mem_of_getElem? (i := 4) (by decide +kernel), List.mem_of_getElem? (i := 107) (by decide +kernel), List.mem_of_getElem? (i := 108) (by decide +kernel)⟩
theorem lw_p10 : lw_okq (⟨"EqualJobPlanner", "dispatch", "()Z"⟩, 16) := ⟨⟨by decide +kernel, by decide +kernel⟩, List.mem_of_getElem? (i := 4) (by decide +kernel), List.mem_of_getElem? (i := 111) (by decide +kernel), List.mem_of_getElem? (i := 112) (by decide +kernel)⟩
theorem lw_p11 : lw_okq (⟨"EqualJobPlanner", "leastWaitingRelease", "()I"⟩, 16) := ⟨⟨by decide +kernel, by decide +kernel⟩, List.mem_of_getElem? (i := 4) (by decide +kernel), List.mem_of_getElem? (i := 115) (by decide +kernel), List.mem_of_getElem? (i := 116) (by decide +kernel)⟩
theorem lw_p12 : lw_okq (⟨"EqualJobPlanner", "openAtOrAfter", "(I)I"⟩, 16) := ⟨⟨by decide +kernel, by decide +kernel⟩, List.mem_of_getElem? (i := 4) (by decide +kernel), List.mem_of_getElem? (i := 119) (by decide +kernel), List.mem_of_getElem? (i := 120) (by decide +kernel)⟩
theorem lw_p13 : lw_okq (⟨"EqualJobPlanner", "mostUrgent", "(I)I"⟩, 16) := ⟨⟨by decide +kernel, by decide +kernel⟩, List.mem_of_getElem? (i := 4) (by decide +kernel), List.mem_of_getElem? (i := 123) (by decide +kernel), List.mem_of_getElem? (i := 124) (by decide +kernel)⟩
theorem lw_p14 : lw_okq (⟨"EqualJobPlanner", "shutBefore", "(I)Z"⟩, 16) := ⟨⟨by decide +kernel, by decide +kernel⟩, List.mem_of_getElem? (i := 4) (by decide +kernel), List.mem_of_getElem? (i := 127) (by decide +kernel), List.mem_of_getElem? (i := 128) (by decide +kernel)⟩
theorem lw_p15 : lw_okq (⟨"EqualJobPlanner", "countWithin", "(II)I"⟩, 16) := ⟨⟨by decide +kernel, by decide +kernel⟩, List.mem_of_getElem? (i := 4) (by decide +kernel), List.mem_of_getElem? (i := 131) (by decide +kernel), List.mem_of_getElem? (i := 132) (by decide +kernel)⟩
def lw_privs_1 : List (MethodName × Nat) := [(⟨"EqualJobPlanner", "windowOk", "(II)Z"⟩, 16), (⟨"EqualJobPlanner", "freeNumber", "()I"⟩, 16), (⟨"EqualJobPlanner", "askAll", "()V"⟩, 16), (⟨"EqualJobPlanner", "askAllBut", "(I)V"⟩, 16), (⟨"EqualJobPlanner", "askPinned", "(II)V"⟩, 16), (⟨"EqualJobPlanner", "ask", "(II)V"⟩, 16), (⟨"EqualJobPlanner", "feasible", "()Z"⟩, 16), (⟨"EqualJobPlanner", "shutBlocks", "()V"⟩, 16), (⟨"EqualJobPlanner", "shutBetween", "(II)V"⟩, 16), (⟨"EqualJobPlanner", "greatestReleaseBelow", "(I)I"⟩, 16), (⟨"EqualJobPlanner", "dispatch", "()Z"⟩, 16), (⟨"EqualJobPlanner", "leastWaitingRelease", "()I"⟩, 16), (⟨"EqualJobPlanner", "openAtOrAfter", "(I)I"⟩, 16), (⟨"EqualJobPlanner", "mostUrgent", "(I)I"⟩, 16), (⟨"EqualJobPlanner", "shutBefore", "(I)Z"⟩, 16), (⟨"EqualJobPlanner", "countWithin", "(II)I"⟩, 16)]
theorem lw_r1 : ∀ q ∈ lw_privs_1, lw_okq q := List.forall_mem_cons.mpr ⟨lw_p0, List.forall_mem_cons.mpr ⟨lw_p1, List.forall_mem_cons.mpr ⟨lw_p2, List.forall_mem_cons.mpr ⟨lw_p3, List.forall_mem_cons.mpr ⟨lw_p4, List.forall_mem_cons.mpr ⟨lw_p5, List.forall_mem_cons.mpr ⟨lw_p6, List.forall_mem_cons.mpr ⟨lw_p7, List.forall_mem_cons.mpr ⟨lw_p8, List.forall_mem_cons.mpr ⟨lw_p9, List.forall_mem_cons.mpr ⟨lw_p10, List.forall_mem_cons.mpr ⟨lw_p11, List.forall_mem_cons.mpr ⟨lw_p12, List.forall_mem_cons.mpr ⟨lw_p13, List.forall_mem_cons.mpr ⟨lw_p14, List.forall_mem_cons.mpr ⟨lw_p15, fun _ h => absurd h List.not_mem_nil⟩⟩⟩⟩⟩⟩⟩⟩⟩⟩⟩⟩⟩⟩⟩⟩
theorem lw_p16 : lw_okq (⟨"EqualJobPlanner", "backFrom", "(II)I"⟩, 16) := ⟨⟨by decide +kernel, by decide +kernel⟩, List.mem_of_getElem? (i := 4) (by decide +kernel), List.mem_of_getElem? (i := 135) (by decide +kernel), List.mem_of_getElem? (i := 136) (by decide +kernel)⟩
theorem lw_p17 : lw_okq (⟨"EqualJobPlanner", "openAtOrBefore", "(I)I"⟩, 16) := ⟨⟨by decide +kernel, by decide +kernel⟩, List.mem_of_getElem? (i := 4) (by decide +kernel), List.mem_of_getElem? (i := 139) (by decide +kernel), List.mem_of_getElem? (i := 140) (by decide +kernel)⟩
theorem lw_p18 : lw_okq (⟨"EqualJobPlanner", "holds", "(I)Z"⟩, 16) := ⟨⟨by decide +kernel, by decide +kernel⟩, List.mem_of_getElem? (i := 4) (by decide +kernel), List.mem_of_getElem? (i := 148) (by decide +kernel), List.mem_of_getElem? (i := 149) (by decide +kernel)⟩
theorem lw_p19 : lw_okq (⟨"EqualJobPlanner", "raise", "(I)V"⟩, 16) := ⟨⟨by decide +kernel, by decide +kernel⟩, List.mem_of_getElem? (i := 4) (by decide +kernel), List.mem_of_getElem? (i := 184) (by decide +kernel), List.mem_of_getElem? (i := 185) (by decide +kernel)⟩
theorem lw_p20 : lw_okq (⟨"EqualJobPlanner", "earliestOf", "(II)I"⟩, 16) := ⟨⟨by decide +kernel, by decide +kernel⟩, List.mem_of_getElem? (i := 4) (by decide +kernel), List.mem_of_getElem? (i := 192) (by decide +kernel), List.mem_of_getElem? (i := 193) (by decide +kernel)⟩
theorem lw_p21 : lw_okq (⟨"EqualJobPlanner", "makePlan", "()V"⟩, 16) := ⟨⟨by decide +kernel, by decide +kernel⟩, List.mem_of_getElem? (i := 4) (by decide +kernel), List.mem_of_getElem? (i := 208) (by decide +kernel), List.mem_of_getElem? (i := 209) (by decide +kernel)⟩
theorem lw_p22 : lw_okq (⟨"EqualJobPlannerModel", "badWindow", "(II)Z"⟩, 12) := ⟨⟨by decide +kernel, by decide +kernel⟩, List.mem_of_getElem? (i := 215) (by decide +kernel), List.mem_of_getElem? (i := 267) (by decide +kernel), List.mem_of_getElem? (i := 268) (by decide +kernel)⟩
theorem lw_p23 : lw_okq (⟨"EqualJobPlannerModel", "leastFree", "()I"⟩, 12) := ⟨⟨by decide +kernel, by decide +kernel⟩, List.mem_of_getElem? (i := 215) (by decide +kernel), List.mem_of_getElem? (i := 271) (by decide +kernel), List.mem_of_getElem? (i := 272) (by decide +kernel)⟩
theorem lw_p24 : lw_okq (⟨"EqualJobPlannerModel", "ask", "(II)V"⟩, 12) := ⟨⟨by decide +kernel, by decide +kernel⟩, List.mem_of_getElem? (i := 215) (by decide +kernel), List.mem_of_getElem? (i := 275) (by decide +kernel), List.mem_of_getElem? (i := 276) (by decide +kernel)⟩
theorem lw_p25 : lw_okq (⟨"EqualJobPlannerModel", "window", "(III)V"⟩, 12) := ⟨⟨by decide +kernel, by decide +kernel⟩, List.mem_of_getElem? (i := 215) (by decide +kernel), List.mem_of_getElem? (i := 279) (by decide +kernel), List.mem_of_getElem? (i := 280) (by decide +kernel)⟩
theorem lw_p26 : lw_okq (⟨"EqualJobPlannerModel", "fits", "()Z"⟩, 12) := ⟨⟨by decide +kernel, by decide +kernel⟩, List.mem_of_getElem? (i := 215) (by decide +kernel), List.mem_of_getElem? (i := 283) (by decide +kernel), List.mem_of_getElem? (i := 284) (by decide +kernel)⟩
theorem lw_p27 : lw_okq (⟨"EqualJobPlannerModel", "extend", "(II)V"⟩, 12) := ⟨⟨by decide +kernel, by decide +kernel⟩, List.mem_of_getElem? (i := 215) (by decide +kernel), List.mem_of_getElem? (i := 287) (by decide +kernel), List.mem_of_getElem? (i := 288) (by decide +kernel)⟩
theorem lw_p28 : lw_okq (⟨"EqualJobPlannerModel", "clear", "(I)Z"⟩, 12) := ⟨⟨by decide +kernel, by decide +kernel⟩, List.mem_of_getElem? (i := 215) (by decide +kernel), List.mem_of_getElem? (i := 291) (by decide +kernel), List.mem_of_getElem? (i := 292) (by decide +kernel)⟩
theorem lw_p29 : lw_okq (⟨"EqualJobPlannerModel", "there", "(I)Z"⟩, 12) := ⟨⟨by decide +kernel, by decide +kernel⟩, List.mem_of_getElem? (i := 215) (by decide +kernel), List.mem_of_getElem? (i := 300) (by decide +kernel), List.mem_of_getElem? (i := 301) (by decide +kernel)⟩
def lw_privs_2 : List (MethodName × Nat) := [(⟨"EqualJobPlanner", "backFrom", "(II)I"⟩, 16), (⟨"EqualJobPlanner", "openAtOrBefore", "(I)I"⟩, 16), (⟨"EqualJobPlanner", "holds", "(I)Z"⟩, 16), (⟨"EqualJobPlanner", "raise", "(I)V"⟩, 16), (⟨"EqualJobPlanner", "earliestOf", "(II)I"⟩, 16), (⟨"EqualJobPlanner", "makePlan", "()V"⟩, 16), (⟨"EqualJobPlannerModel", "badWindow", "(II)Z"⟩, 12), (⟨"EqualJobPlannerModel", "leastFree", "()I"⟩, 12), (⟨"EqualJobPlannerModel", "ask", "(II)V"⟩, 12), (⟨"EqualJobPlannerModel", "window", "(III)V"⟩, 12), (⟨"EqualJobPlannerModel", "fits", "()Z"⟩, 12), (⟨"EqualJobPlannerModel", "extend", "(II)V"⟩, 12), (⟨"EqualJobPlannerModel", "clear", "(I)Z"⟩, 12), (⟨"EqualJobPlannerModel", "there", "(I)Z"⟩, 12)]
theorem lw_r2 : ∀ q ∈ lw_privs_2, lw_okq q := List.forall_mem_cons.mpr ⟨lw_p16, List.forall_mem_cons.mpr ⟨lw_p17, List.forall_mem_cons.mpr ⟨lw_p18, List.forall_mem_cons.mpr ⟨lw_p19, List.forall_mem_cons.mpr ⟨lw_p20, List.forall_mem_cons.mpr ⟨lw_p21, List.forall_mem_cons.mpr ⟨lw_p22, List.forall_mem_cons.mpr ⟨lw_p23, List.forall_mem_cons.mpr ⟨lw_p24, List.forall_mem_cons.mpr ⟨lw_p25, List.forall_mem_cons.mpr ⟨lw_p26, List.forall_mem_cons.mpr ⟨lw_p27, List.forall_mem_cons.mpr ⟨lw_p28, List.forall_mem_cons.mpr ⟨lw_p29, fun _ h => absurd h List.not_mem_nil⟩⟩⟩⟩⟩⟩⟩⟩⟩⟩⟩⟩⟩⟩
def lw_privs : List (MethodName × Nat) := lw_privs_1 ++ (lw_privs_2)
def lw_tbl : List Cond := k2_sels lw_privs ++ tables_1
theorem lw_privs_ok : ∀ q ∈ lw_privs, lw_okq q := by
  show ∀ q ∈ lw_privs_1 ++ (lw_privs_2), lw_okq q
  exact List.forall_mem_append.mpr ⟨lw_r1, lw_r2⟩
end
section
-- NAMES: printed by gen/gen.py
def R_law : String := "EqualJobPlannerLaw"
def R_P : String := "EqualJobPlanner"
def R_M : String := "EqualJobPlannerModel"
/-- the tables' words that last over calls -/
def gw_tbl : List Cond := lw_tbl.filter goodWord
theorem gw_of {w : Cond} (h : w ∈ lw_tbl) (g : goodWord w = true) : w ∈ gw_tbl := List.mem_filter.mpr ⟨h, g⟩
theorem gw_in {w : Cond} (h : w ∈ gw_tbl) : w ∈ lw_tbl := (List.mem_filter.mp h).1
theorem gw_good {w : Cond} (h : w ∈ gw_tbl) : goodWord w = true := (List.mem_filter.mp h).2
theorem lw_in1 {w : Cond} (i : Nat) (h : tables_1_1[i]? = some w) : w ∈ lw_tbl := List.mem_append_right _ (List.mem_append_left _ (List.mem_of_getElem? h))
theorem lw_in2 {w : Cond} (i : Nat) (h : tables_1_2[i]? = some w) : w ∈ lw_tbl := List.mem_append_right _ (List.mem_append_right _ (List.mem_of_getElem? h))
theorem lw_in3 {w : Cond} (i : Nat) (h : (k2_sels lw_privs)[i]? = some w) : w ∈ lw_tbl := List.mem_append_left _ (List.mem_of_getElem? h)

def F_P : u_T := fun k => match k with
  | 0 => ("EqualJobPlanner", "length", "I", true)
  | 1 => ("EqualJobPlanner", "capacity", "I", true)
  | 2 => ("EqualJobPlanner", "used", "[Z", true)
  | 3 => ("EqualJobPlanner", "from", "[B", true)
  | 4 => ("EqualJobPlanner", "until", "[B", true)
  | 5 => ("EqualJobPlanner", "blockUsed", "[Z", true)
  | 6 => ("EqualJobPlanner", "blockFrom", "[B", true)
  | 7 => ("EqualJobPlanner", "blockUntil", "[B", true)
  | 8 => ("EqualJobPlanner", "asked", "I", false)
  | 9 => ("EqualJobPlanner", "askFrom", "[B", true)
  | 10 => ("EqualJobPlanner", "askUntil", "[B", true)
  | 11 => ("EqualJobPlanner", "placed", "[Z", true)
  | 12 => ("EqualJobPlanner", "shut", "[Z", true)
  | 13 => ("EqualJobPlanner", "lastEnd", "I", false)
  | 14 => ("EqualJobPlanner", "planKnown", "Z", false)
  | _ => ("EqualJobPlanner", "plan", "[B", true)
def t_P : Nat → FieldType := fun k => match k with
  | 0 => .int
  | 1 => .int
  | 2 => .array .boolean
  | 3 => .array .byte
  | 4 => .array .byte
  | 5 => .array .boolean
  | 6 => .array .byte
  | 7 => .array .byte
  | 8 => .int
  | 9 => .array .byte
  | 10 => .array .byte
  | 11 => .array .boolean
  | 12 => .array .boolean
  | 13 => .int
  | 14 => .boolean
  | _ => .array .byte
theorem n_P : ∀ a, a < 16 → ∀ b, b < 16 → a ≠ b → (F_P a).2.1 ≠ (F_P b).2.1 := by decide +kernel
theorem t_P_ok : ∀ k, k < 16 → parseFieldDescriptor (F_P k).2.2.1 = some (t_P k) := by decide +kernel
theorem i_P : ∀ w ∈ u_ws R_P F_P 16, w ∈ lw_tbl := by decide +kernel
theorem ig_P : ∀ w ∈ u_ws R_P F_P 16, w ∈ gw_tbl := fun w h => gw_of (i_P w h) ((by decide +kernel : ∀ w ∈ u_ws R_P F_P 16, goodWord w = true) w h)
def F_M : u_T := fun k => match k with
  | 0 => ("EqualJobPlannerModel", "len", "I", false)
  | 1 => ("EqualJobPlannerModel", "cap", "I", false)
  | 2 => ("EqualJobPlannerModel", "held", "[Z", false)
  | 3 => ("EqualJobPlannerModel", "rel", "[I", false)
  | 4 => ("EqualJobPlannerModel", "dead", "[I", false)
  | 5 => ("EqualJobPlannerModel", "shut", "[Z", false)
  | 6 => ("EqualJobPlannerModel", "from", "[I", false)
  | 7 => ("EqualJobPlannerModel", "to", "[I", false)
  | 8 => ("EqualJobPlannerModel", "all", "I", false)
  | 9 => ("EqualJobPlannerModel", "lo", "[I", false)
  | 10 => ("EqualJobPlannerModel", "hi", "[I", false)
  | _ => ("EqualJobPlannerModel", "can", "[Z", false)
def t_M : Nat → FieldType := fun k => match k with
  | 0 => .int
  | 1 => .int
  | 2 => .array .boolean
  | 3 => .array .int
  | 4 => .array .int
  | 5 => .array .boolean
  | 6 => .array .int
  | 7 => .array .int
  | 8 => .int
  | 9 => .array .int
  | 10 => .array .int
  | _ => .array .boolean
theorem n_M : ∀ a, a < 12 → ∀ b, b < 12 → a ≠ b → (F_M a).2.1 ≠ (F_M b).2.1 := by decide +kernel
theorem t_M_ok : ∀ k, k < 12 → parseFieldDescriptor (F_M k).2.2.1 = some (t_M k) := by decide +kernel
theorem i_M : ∀ w ∈ u_ws R_M F_M 12, w ∈ lw_tbl := by decide +kernel
theorem ig_M : ∀ w ∈ u_ws R_M F_M 12, w ∈ gw_tbl := fun w h => gw_of (i_M w h) ((by decide +kernel : ∀ w ∈ u_ws R_M F_M 12, goodWord w = true) w h)
abbrev classes : List vw_C := [(R_P, F_P, 16), (R_M, F_M, 12)]
theorem gw_ini_P : Cond.initialized R_P ∈ gw_tbl := gw_of (lw_in1 1 rfl) rfl
theorem gw_ini_M : Cond.initialized R_M ∈ gw_tbl := gw_of (lw_in1 2 rfl) rfl
theorem gw_ini_L : Cond.initialized R_law ∈ gw_tbl := gw_of (lw_in1 0 rfl) rfl
abbrev b_P_init : ByteArray := prog_1_method_1_code
def y_P_init : MethodName := ⟨R_P, "<init>", "(II)V"⟩
abbrev b_P_offer : ByteArray := prog_1_method_2_code
def y_P_offer : MethodName := ⟨R_P, "offer", "(II)I"⟩
abbrev b_P_probe : ByteArray := prog_1_method_3_code
def y_P_probe : MethodName := ⟨R_P, "probe", "(II)I"⟩
abbrev b_P_windowOk : ByteArray := prog_1_method_8_code
def y_P_windowOk : MethodName := ⟨R_P, "windowOk", "(II)Z"⟩
abbrev b_P_freeNumber : ByteArray := prog_1_method_10_code
def y_P_freeNumber : MethodName := ⟨R_P, "freeNumber", "()I"⟩
abbrev b_P_askAll : ByteArray := prog_1_method_22_code
def y_P_askAll : MethodName := ⟨R_P, "askAll", "()V"⟩
abbrev b_P_askAllBut : ByteArray := prog_1_method_23_code
def y_P_askAllBut : MethodName := ⟨R_P, "askAllBut", "(I)V"⟩
abbrev b_P_askPinned : ByteArray := prog_1_method_24_code
def y_P_askPinned : MethodName := ⟨R_P, "askPinned", "(II)V"⟩
abbrev b_P_ask : ByteArray := prog_1_method_25_code
def y_P_ask : MethodName := ⟨R_P, "ask", "(II)V"⟩
abbrev b_P_feasible : ByteArray := prog_1_method_27_code
def y_P_feasible : MethodName := ⟨R_P, "feasible", "()Z"⟩
abbrev b_P_shutBlocks : ByteArray := prog_1_method_28_code
def y_P_shutBlocks : MethodName := ⟨R_P, "shutBlocks", "()V"⟩
abbrev b_P_shutBetween : ByteArray := prog_1_method_29_code
def y_P_shutBetween : MethodName := ⟨R_P, "shutBetween", "(II)V"⟩
abbrev b_P_greatestReleaseBelow : ByteArray := prog_1_method_30_code
def y_P_greatestReleaseBelow : MethodName := ⟨R_P, "greatestReleaseBelow", "(I)I"⟩
abbrev b_P_dispatch : ByteArray := prog_1_method_36_code
def y_P_dispatch : MethodName := ⟨R_P, "dispatch", "()Z"⟩
abbrev b_P_leastWaitingRelease : ByteArray := prog_1_method_37_code
def y_P_leastWaitingRelease : MethodName := ⟨R_P, "leastWaitingRelease", "()I"⟩
abbrev b_P_openAtOrAfter : ByteArray := prog_1_method_35_code
def y_P_openAtOrAfter : MethodName := ⟨R_P, "openAtOrAfter", "(I)I"⟩
abbrev b_P_mostUrgent : ByteArray := prog_1_method_38_code
def y_P_mostUrgent : MethodName := ⟨R_P, "mostUrgent", "(I)I"⟩
abbrev b_P_shutBefore : ByteArray := prog_1_method_31_code
def y_P_shutBefore : MethodName := ⟨R_P, "shutBefore", "(I)Z"⟩
abbrev b_P_countWithin : ByteArray := prog_1_method_32_code
def y_P_countWithin : MethodName := ⟨R_P, "countWithin", "(II)I"⟩
abbrev b_P_backFrom : ByteArray := prog_1_method_33_code
def y_P_backFrom : MethodName := ⟨R_P, "backFrom", "(II)I"⟩
abbrev b_P_openAtOrBefore : ByteArray := prog_1_method_34_code
def y_P_openAtOrBefore : MethodName := ⟨R_P, "openAtOrBefore", "(I)I"⟩
abbrev b_P_move : ByteArray := prog_1_method_4_code
def y_P_move : MethodName := ⟨R_P, "move", "(III)I"⟩
abbrev b_P_holds : ByteArray := prog_1_method_9_code
def y_P_holds : MethodName := ⟨R_P, "holds", "(I)Z"⟩
abbrev b_P_withdraw : ByteArray := prog_1_method_5_code
def y_P_withdraw : MethodName := ⟨R_P, "withdraw", "(I)Z"⟩
abbrev b_P_block : ByteArray := prog_1_method_6_code
def y_P_block : MethodName := ⟨R_P, "block", "(II)I"⟩
abbrev b_P_unblock : ByteArray := prog_1_method_7_code
def y_P_unblock : MethodName := ⟨R_P, "unblock", "(I)Z"⟩
abbrev b_P_jobs : ByteArray := prog_1_method_11_code
def y_P_jobs : MethodName := ⟨R_P, "jobs", "()I"⟩
abbrev b_P_release : ByteArray := prog_1_method_12_code
def y_P_release : MethodName := ⟨R_P, "release", "(I)I"⟩
abbrev b_P_deadline : ByteArray := prog_1_method_13_code
def y_P_deadline : MethodName := ⟨R_P, "deadline", "(I)I"⟩
abbrev b_P_earliestEnd : ByteArray := prog_1_method_14_code
def y_P_earliestEnd : MethodName := ⟨R_P, "earliestEnd", "()I"⟩
abbrev b_P_latestBegin : ByteArray := prog_1_method_15_code
def y_P_latestBegin : MethodName := ⟨R_P, "latestBegin", "()I"⟩
abbrev b_P_raise : ByteArray := prog_1_method_26_code
def y_P_raise : MethodName := ⟨R_P, "raise", "(I)V"⟩
abbrev b_P_earliestStart : ByteArray := prog_1_method_16_code
def y_P_earliestStart : MethodName := ⟨R_P, "earliestStart", "(I)I"⟩
abbrev b_P_earliestOf : ByteArray := prog_1_method_21_code
def y_P_earliestOf : MethodName := ⟨R_P, "earliestOf", "(II)I"⟩
abbrev b_P_latestStart : ByteArray := prog_1_method_17_code
def y_P_latestStart : MethodName := ⟨R_P, "latestStart", "(I)I"⟩
abbrev b_P_open : ByteArray := prog_1_method_18_code
def y_P_open : MethodName := ⟨R_P, "open", "(I)Z"⟩
abbrev b_P_plannedStart : ByteArray := prog_1_method_19_code
def y_P_plannedStart : MethodName := ⟨R_P, "plannedStart", "(I)I"⟩
abbrev b_P_makePlan : ByteArray := prog_1_method_20_code
def y_P_makePlan : MethodName := ⟨R_P, "makePlan", "()V"⟩
abbrev b_L_cell : ByteArray := method_2_code
def y_L_cell : MethodName := ⟨R_law, "cell", "([II)I"⟩
abbrev b_M_init : ByteArray := prog_3_method_1_code
def y_M_init : MethodName := ⟨R_M, "<init>", "(II)V"⟩
abbrev b_M_offer : ByteArray := prog_3_method_10_code
def y_M_offer : MethodName := ⟨R_M, "offer", "(II)I"⟩
abbrev b_M_probe : ByteArray := prog_3_method_11_code
def y_M_probe : MethodName := ⟨R_M, "probe", "(II)I"⟩
abbrev b_M_badWindow : ByteArray := prog_3_method_3_code
def y_M_badWindow : MethodName := ⟨R_M, "badWindow", "(II)Z"⟩
abbrev b_M_leastFree : ByteArray := prog_3_method_9_code
def y_M_leastFree : MethodName := ⟨R_M, "leastFree", "()I"⟩
abbrev b_M_ask : ByteArray := prog_3_method_4_code
def y_M_ask : MethodName := ⟨R_M, "ask", "(II)V"⟩
abbrev b_M_window : ByteArray := prog_3_method_5_code
def y_M_window : MethodName := ⟨R_M, "window", "(III)V"⟩
abbrev b_M_fits : ByteArray := prog_3_method_6_code
def y_M_fits : MethodName := ⟨R_M, "fits", "()Z"⟩
abbrev b_M_extend : ByteArray := prog_3_method_7_code
def y_M_extend : MethodName := ⟨R_M, "extend", "(II)V"⟩
abbrev b_M_clear : ByteArray := prog_3_method_8_code
def y_M_clear : MethodName := ⟨R_M, "clear", "(I)Z"⟩
abbrev b_M_move : ByteArray := prog_3_method_12_code
def y_M_move : MethodName := ⟨R_M, "move", "(III)I"⟩
abbrev b_M_there : ByteArray := prog_3_method_2_code
def y_M_there : MethodName := ⟨R_M, "there", "(I)Z"⟩
abbrev b_M_withdraw : ByteArray := prog_3_method_13_code
def y_M_withdraw : MethodName := ⟨R_M, "withdraw", "(I)Z"⟩
abbrev b_M_block : ByteArray := prog_3_method_14_code
def y_M_block : MethodName := ⟨R_M, "block", "(II)I"⟩
abbrev b_M_unblock : ByteArray := prog_3_method_15_code
def y_M_unblock : MethodName := ⟨R_M, "unblock", "(I)Z"⟩
abbrev b_M_jobs : ByteArray := prog_3_method_16_code
def y_M_jobs : MethodName := ⟨R_M, "jobs", "()I"⟩
abbrev b_M_release : ByteArray := prog_3_method_17_code
def y_M_release : MethodName := ⟨R_M, "release", "(I)I"⟩
abbrev b_M_deadline : ByteArray := prog_3_method_18_code
def y_M_deadline : MethodName := ⟨R_M, "deadline", "(I)I"⟩
abbrev b_M_earliestEnd : ByteArray := prog_3_method_19_code
def y_M_earliestEnd : MethodName := ⟨R_M, "earliestEnd", "()I"⟩
abbrev b_M_latestBegin : ByteArray := prog_3_method_20_code
def y_M_latestBegin : MethodName := ⟨R_M, "latestBegin", "()I"⟩
abbrev b_M_earliestStart : ByteArray := prog_3_method_21_code
def y_M_earliestStart : MethodName := ⟨R_M, "earliestStart", "(I)I"⟩
abbrev b_M_latestStart : ByteArray := prog_3_method_22_code
def y_M_latestStart : MethodName := ⟨R_M, "latestStart", "(I)I"⟩
abbrev b_M_open : ByteArray := prog_3_method_23_code
def y_M_open : MethodName := ⟨R_M, "open", "(I)Z"⟩
abbrev b_M_plannedStart : ByteArray := prog_3_method_24_code
def y_M_plannedStart : MethodName := ⟨R_M, "plannedStart", "(I)I"⟩
/-- what the tables say of a method that is called by invokevirtual -/
def gw_m (y : MethodName) (b : ByteArray) (n : Nat) (r : Option FieldType) : Prop := Cond.instanceMethod y ∈ gw_tbl ∧ Cond.selects y.cls y y ∈ gw_tbl ∧ Cond.code y b n r ∈ gw_tbl
theorem gm_P_offer : gw_m y_P_offer b_P_offer 4 (some .int) := ⟨gw_of (lw_in1 63 rfl) rfl, gw_of (lw_in1 64 rfl) rfl, gw_of (lw_in1 65 rfl) rfl⟩
theorem gm_P_probe : gw_m y_P_probe b_P_probe 4 (some .int) := ⟨gw_of (lw_in1 67 rfl) rfl, gw_of (lw_in1 68 rfl) rfl, gw_of (lw_in1 69 rfl) rfl⟩
theorem gm_P_windowOk : gw_m y_P_windowOk b_P_windowOk 3 (some .boolean) := ⟨gw_of (lw_in1 72 rfl) rfl, gw_of (lw_in3 0 rfl) rfl, gw_of (lw_in1 73 rfl) rfl⟩
theorem gm_P_freeNumber : gw_m y_P_freeNumber b_P_freeNumber 2 (some .int) := ⟨gw_of (lw_in1 76 rfl) rfl, gw_of (lw_in3 1 rfl) rfl, gw_of (lw_in1 77 rfl) rfl⟩
theorem gm_P_askAll : gw_m y_P_askAll b_P_askAll 1 none := ⟨gw_of (lw_in1 80 rfl) rfl, gw_of (lw_in3 2 rfl) rfl, gw_of (lw_in1 81 rfl) rfl⟩
theorem gm_P_askAllBut : gw_m y_P_askAllBut b_P_askAllBut 2 none := ⟨gw_of (lw_in1 84 rfl) rfl, gw_of (lw_in3 3 rfl) rfl, gw_of (lw_in1 85 rfl) rfl⟩
theorem gm_P_askPinned : gw_m y_P_askPinned b_P_askPinned 7 none := ⟨gw_of (lw_in1 88 rfl) rfl, gw_of (lw_in3 4 rfl) rfl, gw_of (lw_in1 89 rfl) rfl⟩
theorem gm_P_ask : gw_m y_P_ask b_P_ask 3 none := ⟨gw_of (lw_in1 92 rfl) rfl, gw_of (lw_in3 5 rfl) rfl, gw_of (lw_in1 93 rfl) rfl⟩
theorem gm_P_feasible : gw_m y_P_feasible b_P_feasible 4 (some .boolean) := ⟨gw_of (lw_in1 96 rfl) rfl, gw_of (lw_in3 6 rfl) rfl, gw_of (lw_in1 97 rfl) rfl⟩
theorem gm_P_shutBlocks : gw_m y_P_shutBlocks b_P_shutBlocks 2 none := ⟨gw_of (lw_in1 100 rfl) rfl, gw_of (lw_in3 7 rfl) rfl, gw_of (lw_in1 101 rfl) rfl⟩
theorem gm_P_shutBetween : gw_m y_P_shutBetween b_P_shutBetween 4 none := ⟨gw_of (lw_in1 104 rfl) rfl, gw_of (lw_in3 8 rfl) rfl, gw_of (lw_in1 105 rfl) rfl⟩
theorem gm_P_greatestReleaseBelow : gw_m y_P_greatestReleaseBelow b_P_greatestReleaseBelow 4 (some .int) := ⟨gw_of (lw_in1 108 rfl) rfl, gw_of (lw_in3 9 rfl) rfl, gw_of (lw_in1 109 rfl) rfl⟩
theorem gm_P_dispatch : gw_m y_P_dispatch b_P_dispatch 5 (some .boolean) := ⟨gw_of (lw_in1 112 rfl) rfl, gw_of (lw_in3 10 rfl) rfl, gw_of (lw_in1 113 rfl) rfl⟩
theorem gm_P_leastWaitingRelease : gw_m y_P_leastWaitingRelease b_P_leastWaitingRelease 3 (some .int) := ⟨gw_of (lw_in1 116 rfl) rfl, gw_of (lw_in3 11 rfl) rfl, gw_of (lw_in1 117 rfl) rfl⟩
theorem gm_P_openAtOrAfter : gw_m y_P_openAtOrAfter b_P_openAtOrAfter 3 (some .int) := ⟨gw_of (lw_in1 120 rfl) rfl, gw_of (lw_in3 12 rfl) rfl, gw_of (lw_in1 121 rfl) rfl⟩
theorem gm_P_mostUrgent : gw_m y_P_mostUrgent b_P_mostUrgent 4 (some .int) := ⟨gw_of (lw_in1 124 rfl) rfl, gw_of (lw_in3 13 rfl) rfl, gw_of (lw_in1 125 rfl) rfl⟩
theorem gm_P_shutBefore : gw_m y_P_shutBefore b_P_shutBefore 7 (some .boolean) := ⟨gw_of (lw_in1 128 rfl) rfl, gw_of (lw_in3 14 rfl) rfl, gw_of (lw_in1 129 rfl) rfl⟩
theorem gm_P_countWithin : gw_m y_P_countWithin b_P_countWithin 5 (some .int) := ⟨gw_of (lw_in1 132 rfl) rfl, gw_of (lw_in3 15 rfl) rfl, gw_of (lw_in1 133 rfl) rfl⟩
theorem gm_P_backFrom : gw_m y_P_backFrom b_P_backFrom 5 (some .int) := ⟨gw_of (lw_in1 136 rfl) rfl, gw_of (lw_in3 16 rfl) rfl, gw_of (lw_in1 137 rfl) rfl⟩
theorem gm_P_openAtOrBefore : gw_m y_P_openAtOrBefore b_P_openAtOrBefore 3 (some .int) := ⟨gw_of (lw_in1 140 rfl) rfl, gw_of (lw_in3 17 rfl) rfl, gw_of (lw_in1 141 rfl) rfl⟩
theorem gm_P_move : gw_m y_P_move b_P_move 4 (some .int) := ⟨gw_of (lw_in1 144 rfl) rfl, gw_of (lw_in1 145 rfl) rfl, gw_of (lw_in1 146 rfl) rfl⟩
theorem gm_P_holds : gw_m y_P_holds b_P_holds 2 (some .boolean) := ⟨gw_of (lw_in1 149 rfl) rfl, gw_of (lw_in3 18 rfl) rfl, gw_of (lw_in1 150 rfl) rfl⟩
theorem gm_P_withdraw : gw_m y_P_withdraw b_P_withdraw 2 (some .boolean) := ⟨gw_of (lw_in1 152 rfl) rfl, gw_of (lw_in1 153 rfl) rfl, gw_of (lw_in1 154 rfl) rfl⟩
theorem gm_P_block : gw_m y_P_block b_P_block 4 (some .int) := ⟨gw_of (lw_in1 156 rfl) rfl, gw_of (lw_in1 157 rfl) rfl, gw_of (lw_in1 158 rfl) rfl⟩
theorem gm_P_unblock : gw_m y_P_unblock b_P_unblock 2 (some .boolean) := ⟨gw_of (lw_in1 160 rfl) rfl, gw_of (lw_in1 161 rfl) rfl, gw_of (lw_in1 162 rfl) rfl⟩
theorem gm_P_jobs : gw_m y_P_jobs b_P_jobs 3 (some .int) := ⟨gw_of (lw_in1 164 rfl) rfl, gw_of (lw_in1 165 rfl) rfl, gw_of (lw_in1 166 rfl) rfl⟩
theorem gm_P_release : gw_m y_P_release b_P_release 2 (some .int) := ⟨gw_of (lw_in1 168 rfl) rfl, gw_of (lw_in1 169 rfl) rfl, gw_of (lw_in1 170 rfl) rfl⟩
theorem gm_P_deadline : gw_m y_P_deadline b_P_deadline 2 (some .int) := ⟨gw_of (lw_in1 172 rfl) rfl, gw_of (lw_in1 173 rfl) rfl, gw_of (lw_in1 174 rfl) rfl⟩
theorem gm_P_earliestEnd : gw_m y_P_earliestEnd b_P_earliestEnd 1 (some .int) := ⟨gw_of (lw_in1 176 rfl) rfl, gw_of (lw_in1 177 rfl) rfl, gw_of (lw_in1 178 rfl) rfl⟩
theorem gm_P_latestBegin : gw_m y_P_latestBegin b_P_latestBegin 5 (some .int) := ⟨gw_of (lw_in1 180 rfl) rfl, gw_of (lw_in1 181 rfl) rfl, gw_of (lw_in1 182 rfl) rfl⟩
theorem gm_P_raise : gw_m y_P_raise b_P_raise 3 none := ⟨gw_of (lw_in1 185 rfl) rfl, gw_of (lw_in3 19 rfl) rfl, gw_of (lw_in1 186 rfl) rfl⟩
theorem gm_P_earliestStart : gw_m y_P_earliestStart b_P_earliestStart 2 (some .int) := ⟨gw_of (lw_in1 188 rfl) rfl, gw_of (lw_in1 189 rfl) rfl, gw_of (lw_in1 190 rfl) rfl⟩
theorem gm_P_earliestOf : gw_m y_P_earliestOf b_P_earliestOf 7 (some .int) := ⟨gw_of (lw_in1 193 rfl) rfl, gw_of (lw_in3 20 rfl) rfl, gw_of (lw_in1 194 rfl) rfl⟩
theorem gm_P_latestStart : gw_m y_P_latestStart b_P_latestStart 6 (some .int) := ⟨gw_of (lw_in1 196 rfl) rfl, gw_of (lw_in1 197 rfl) rfl, gw_of (lw_in1 198 rfl) rfl⟩
theorem gm_P_open : gw_m y_P_open b_P_open 2 (some .boolean) := ⟨gw_of (lw_in1 200 rfl) rfl, gw_of (lw_in1 201 rfl) rfl, gw_of (lw_in1 202 rfl) rfl⟩
theorem gm_P_plannedStart : gw_m y_P_plannedStart b_P_plannedStart 2 (some .int) := ⟨gw_of (lw_in1 204 rfl) rfl, gw_of (lw_in1 205 rfl) rfl, gw_of (lw_in1 206 rfl) rfl⟩
theorem gm_P_makePlan : gw_m y_P_makePlan b_P_makePlan 2 none := ⟨gw_of (lw_in1 209 rfl) rfl, gw_of (lw_in3 21 rfl) rfl, gw_of (lw_in1 210 rfl) rfl⟩
theorem gm_M_offer : gw_m y_M_offer b_M_offer 4 (some .int) := ⟨gw_of (lw_in2 19 rfl) rfl, gw_of (lw_in2 20 rfl) rfl, gw_of (lw_in2 21 rfl) rfl⟩
theorem gm_M_probe : gw_m y_M_probe b_M_probe 4 (some .int) := ⟨gw_of (lw_in2 23 rfl) rfl, gw_of (lw_in2 24 rfl) rfl, gw_of (lw_in2 25 rfl) rfl⟩
theorem gm_M_badWindow : gw_m y_M_badWindow b_M_badWindow 3 (some .boolean) := ⟨gw_of (lw_in2 28 rfl) rfl, gw_of (lw_in3 22 rfl) rfl, gw_of (lw_in2 29 rfl) rfl⟩
theorem gm_M_leastFree : gw_m y_M_leastFree b_M_leastFree 4 (some .int) := ⟨gw_of (lw_in2 32 rfl) rfl, gw_of (lw_in3 23 rfl) rfl, gw_of (lw_in2 33 rfl) rfl⟩
theorem gm_M_ask : gw_m y_M_ask b_M_ask 4 none := ⟨gw_of (lw_in2 36 rfl) rfl, gw_of (lw_in3 24 rfl) rfl, gw_of (lw_in2 37 rfl) rfl⟩
theorem gm_M_window : gw_m y_M_window b_M_window 4 none := ⟨gw_of (lw_in2 40 rfl) rfl, gw_of (lw_in3 25 rfl) rfl, gw_of (lw_in2 41 rfl) rfl⟩
theorem gm_M_fits : gw_m y_M_fits b_M_fits 3 (some .boolean) := ⟨gw_of (lw_in2 44 rfl) rfl, gw_of (lw_in3 26 rfl) rfl, gw_of (lw_in2 45 rfl) rfl⟩
theorem gm_M_extend : gw_m y_M_extend b_M_extend 5 none := ⟨gw_of (lw_in2 48 rfl) rfl, gw_of (lw_in3 27 rfl) rfl, gw_of (lw_in2 49 rfl) rfl⟩
theorem gm_M_clear : gw_m y_M_clear b_M_clear 4 (some .boolean) := ⟨gw_of (lw_in2 52 rfl) rfl, gw_of (lw_in3 28 rfl) rfl, gw_of (lw_in2 53 rfl) rfl⟩
theorem gm_M_move : gw_m y_M_move b_M_move 4 (some .int) := ⟨gw_of (lw_in2 56 rfl) rfl, gw_of (lw_in2 57 rfl) rfl, gw_of (lw_in2 58 rfl) rfl⟩
theorem gm_M_there : gw_m y_M_there b_M_there 2 (some .boolean) := ⟨gw_of (lw_in2 61 rfl) rfl, gw_of (lw_in3 29 rfl) rfl, gw_of (lw_in2 62 rfl) rfl⟩
theorem gm_M_withdraw : gw_m y_M_withdraw b_M_withdraw 2 (some .boolean) := ⟨gw_of (lw_in2 64 rfl) rfl, gw_of (lw_in2 65 rfl) rfl, gw_of (lw_in2 66 rfl) rfl⟩
theorem gm_M_block : gw_m y_M_block b_M_block 4 (some .int) := ⟨gw_of (lw_in2 68 rfl) rfl, gw_of (lw_in2 69 rfl) rfl, gw_of (lw_in2 70 rfl) rfl⟩
theorem gm_M_unblock : gw_m y_M_unblock b_M_unblock 2 (some .boolean) := ⟨gw_of (lw_in2 72 rfl) rfl, gw_of (lw_in2 73 rfl) rfl, gw_of (lw_in2 74 rfl) rfl⟩
theorem gm_M_jobs : gw_m y_M_jobs b_M_jobs 1 (some .int) := ⟨gw_of (lw_in2 76 rfl) rfl, gw_of (lw_in2 77 rfl) rfl, gw_of (lw_in2 78 rfl) rfl⟩
theorem gm_M_release : gw_m y_M_release b_M_release 2 (some .int) := ⟨gw_of (lw_in2 80 rfl) rfl, gw_of (lw_in2 81 rfl) rfl, gw_of (lw_in2 82 rfl) rfl⟩
theorem gm_M_deadline : gw_m y_M_deadline b_M_deadline 2 (some .int) := ⟨gw_of (lw_in2 84 rfl) rfl, gw_of (lw_in2 85 rfl) rfl, gw_of (lw_in2 86 rfl) rfl⟩
theorem gm_M_earliestEnd : gw_m y_M_earliestEnd b_M_earliestEnd 2 (some .int) := ⟨gw_of (lw_in2 88 rfl) rfl, gw_of (lw_in2 89 rfl) rfl, gw_of (lw_in2 90 rfl) rfl⟩
theorem gm_M_latestBegin : gw_m y_M_latestBegin b_M_latestBegin 2 (some .int) := ⟨gw_of (lw_in2 92 rfl) rfl, gw_of (lw_in2 93 rfl) rfl, gw_of (lw_in2 94 rfl) rfl⟩
theorem gm_M_earliestStart : gw_m y_M_earliestStart b_M_earliestStart 3 (some .int) := ⟨gw_of (lw_in2 96 rfl) rfl, gw_of (lw_in2 97 rfl) rfl, gw_of (lw_in2 98 rfl) rfl⟩
theorem gm_M_latestStart : gw_m y_M_latestStart b_M_latestStart 3 (some .int) := ⟨gw_of (lw_in2 100 rfl) rfl, gw_of (lw_in2 101 rfl) rfl, gw_of (lw_in2 102 rfl) rfl⟩
theorem gm_M_open : gw_m y_M_open b_M_open 2 (some .boolean) := ⟨gw_of (lw_in2 104 rfl) rfl, gw_of (lw_in2 105 rfl) rfl, gw_of (lw_in2 106 rfl) rfl⟩
theorem gm_M_plannedStart : gw_m y_M_plannedStart b_M_plannedStart 5 (some .int) := ⟨gw_of (lw_in2 108 rfl) rfl, gw_of (lw_in2 109 rfl) rfl, gw_of (lw_in2 110 rfl) rfl⟩
theorem gl_L_15 : Cond.methodLink R_law 15 y_P_init ∈ gw_tbl := gw_of (lw_in1 5 rfl) rfl
theorem gl_L_21 : Cond.methodLink R_law 21 y_P_offer ∈ gw_tbl := gw_of (lw_in1 62 rfl) rfl
theorem gl_P_51 : Cond.methodLink R_P 51 y_P_probe ∈ gw_tbl := gw_of (lw_in1 66 rfl) rfl
theorem gl_P_59 : Cond.methodLink R_P 59 y_P_windowOk ∈ gw_tbl := gw_of (lw_in1 70 rfl) rfl
theorem gl_P_63 : Cond.methodLink R_P 63 y_P_freeNumber ∈ gw_tbl := gw_of (lw_in1 74 rfl) rfl
theorem gl_P_67 : Cond.methodLink R_P 67 y_P_askAll ∈ gw_tbl := gw_of (lw_in1 78 rfl) rfl
theorem gl_P_82 : Cond.methodLink R_P 82 y_P_askAllBut ∈ gw_tbl := gw_of (lw_in1 82 rfl) rfl
theorem gl_P_98 : Cond.methodLink R_P 98 y_P_askPinned ∈ gw_tbl := gw_of (lw_in1 86 rfl) rfl
theorem gl_P_70 : Cond.methodLink R_P 70 y_P_ask ∈ gw_tbl := gw_of (lw_in1 90 rfl) rfl
theorem gl_P_74 : Cond.methodLink R_P 74 y_P_feasible ∈ gw_tbl := gw_of (lw_in1 94 rfl) rfl
theorem gl_P_104 : Cond.methodLink R_P 104 y_P_shutBlocks ∈ gw_tbl := gw_of (lw_in1 98 rfl) rfl
theorem gl_P_117 : Cond.methodLink R_P 117 y_P_shutBetween ∈ gw_tbl := gw_of (lw_in1 102 rfl) rfl
theorem gl_P_107 : Cond.methodLink R_P 107 y_P_greatestReleaseBelow ∈ gw_tbl := gw_of (lw_in1 106 rfl) rfl
theorem gl_P_111 : Cond.methodLink R_P 111 y_P_dispatch ∈ gw_tbl := gw_of (lw_in1 110 rfl) rfl
theorem gl_P_129 : Cond.methodLink R_P 129 y_P_leastWaitingRelease ∈ gw_tbl := gw_of (lw_in1 114 rfl) rfl
theorem gl_P_132 : Cond.methodLink R_P 132 y_P_openAtOrAfter ∈ gw_tbl := gw_of (lw_in1 118 rfl) rfl
theorem gl_P_135 : Cond.methodLink R_P 135 y_P_mostUrgent ∈ gw_tbl := gw_of (lw_in1 122 rfl) rfl
theorem gl_P_114 : Cond.methodLink R_P 114 y_P_shutBefore ∈ gw_tbl := gw_of (lw_in1 126 rfl) rfl
theorem gl_P_120 : Cond.methodLink R_P 120 y_P_countWithin ∈ gw_tbl := gw_of (lw_in1 130 rfl) rfl
theorem gl_P_123 : Cond.methodLink R_P 123 y_P_backFrom ∈ gw_tbl := gw_of (lw_in1 134 rfl) rfl
theorem gl_P_126 : Cond.methodLink R_P 126 y_P_openAtOrBefore ∈ gw_tbl := gw_of (lw_in1 138 rfl) rfl
theorem gl_L_26 : Cond.methodLink R_law 26 y_P_probe ∈ gw_tbl := gw_of (lw_in1 142 rfl) rfl
theorem gl_L_30 : Cond.methodLink R_law 30 y_P_move ∈ gw_tbl := gw_of (lw_in1 143 rfl) rfl
theorem gl_P_78 : Cond.methodLink R_P 78 y_P_holds ∈ gw_tbl := gw_of (lw_in1 147 rfl) rfl
theorem gl_L_35 : Cond.methodLink R_law 35 y_P_withdraw ∈ gw_tbl := gw_of (lw_in1 151 rfl) rfl
theorem gl_L_40 : Cond.methodLink R_law 40 y_P_block ∈ gw_tbl := gw_of (lw_in1 155 rfl) rfl
theorem gl_L_44 : Cond.methodLink R_law 44 y_P_unblock ∈ gw_tbl := gw_of (lw_in1 159 rfl) rfl
theorem gl_L_48 : Cond.methodLink R_law 48 y_P_jobs ∈ gw_tbl := gw_of (lw_in1 163 rfl) rfl
theorem gl_L_53 : Cond.methodLink R_law 53 y_P_release ∈ gw_tbl := gw_of (lw_in1 167 rfl) rfl
theorem gl_L_58 : Cond.methodLink R_law 58 y_P_deadline ∈ gw_tbl := gw_of (lw_in1 171 rfl) rfl
theorem gl_L_62 : Cond.methodLink R_law 62 y_P_earliestEnd ∈ gw_tbl := gw_of (lw_in1 175 rfl) rfl
theorem gl_L_66 : Cond.methodLink R_law 66 y_P_latestBegin ∈ gw_tbl := gw_of (lw_in1 179 rfl) rfl
theorem gl_P_89 : Cond.methodLink R_P 89 y_P_raise ∈ gw_tbl := gw_of (lw_in1 183 rfl) rfl
theorem gl_L_70 : Cond.methodLink R_law 70 y_P_earliestStart ∈ gw_tbl := gw_of (lw_in1 187 rfl) rfl
theorem gl_P_92 : Cond.methodLink R_P 92 y_P_earliestOf ∈ gw_tbl := gw_of (lw_in1 191 rfl) rfl
theorem gl_L_74 : Cond.methodLink R_law 74 y_P_latestStart ∈ gw_tbl := gw_of (lw_in1 195 rfl) rfl
theorem gl_L_78 : Cond.methodLink R_law 78 y_P_open ∈ gw_tbl := gw_of (lw_in1 199 rfl) rfl
theorem gl_L_82 : Cond.methodLink R_law 82 y_P_plannedStart ∈ gw_tbl := gw_of (lw_in1 203 rfl) rfl
theorem gl_P_95 : Cond.methodLink R_P 95 y_P_makePlan ∈ gw_tbl := gw_of (lw_in1 207 rfl) rfl
theorem gl_L_9 : Cond.methodLink R_law 9 y_L_cell ∈ gw_tbl := gw_of (lw_in1 211 rfl) rfl
theorem gl_L_20 : Cond.methodLink R_law 20 y_M_init ∈ gw_tbl := gw_of (lw_in1 216 rfl) rfl
theorem gl_L_25 : Cond.methodLink R_law 25 y_M_offer ∈ gw_tbl := gw_of (lw_in2 18 rfl) rfl
theorem gl_M_56 : Cond.methodLink R_M 56 y_M_probe ∈ gw_tbl := gw_of (lw_in2 22 rfl) rfl
theorem gl_M_60 : Cond.methodLink R_M 60 y_M_badWindow ∈ gw_tbl := gw_of (lw_in2 26 rfl) rfl
theorem gl_M_64 : Cond.methodLink R_M 64 y_M_leastFree ∈ gw_tbl := gw_of (lw_in2 30 rfl) rfl
theorem gl_M_68 : Cond.methodLink R_M 68 y_M_ask ∈ gw_tbl := gw_of (lw_in2 34 rfl) rfl
theorem gl_M_71 : Cond.methodLink R_M 71 y_M_window ∈ gw_tbl := gw_of (lw_in2 38 rfl) rfl
theorem gl_M_75 : Cond.methodLink R_M 75 y_M_fits ∈ gw_tbl := gw_of (lw_in2 42 rfl) rfl
theorem gl_M_48 : Cond.methodLink R_M 48 y_M_extend ∈ gw_tbl := gw_of (lw_in2 46 rfl) rfl
theorem gl_M_52 : Cond.methodLink R_M 52 y_M_clear ∈ gw_tbl := gw_of (lw_in2 50 rfl) rfl
theorem gl_L_29 : Cond.methodLink R_law 29 y_M_probe ∈ gw_tbl := gw_of (lw_in2 54 rfl) rfl
theorem gl_L_34 : Cond.methodLink R_law 34 y_M_move ∈ gw_tbl := gw_of (lw_in2 55 rfl) rfl
theorem gl_M_79 : Cond.methodLink R_M 79 y_M_there ∈ gw_tbl := gw_of (lw_in2 59 rfl) rfl
theorem gl_L_39 : Cond.methodLink R_law 39 y_M_withdraw ∈ gw_tbl := gw_of (lw_in2 63 rfl) rfl
theorem gl_L_43 : Cond.methodLink R_law 43 y_M_block ∈ gw_tbl := gw_of (lw_in2 67 rfl) rfl
theorem gl_L_47 : Cond.methodLink R_law 47 y_M_unblock ∈ gw_tbl := gw_of (lw_in2 71 rfl) rfl
theorem gl_L_52 : Cond.methodLink R_law 52 y_M_jobs ∈ gw_tbl := gw_of (lw_in2 75 rfl) rfl
theorem gl_L_57 : Cond.methodLink R_law 57 y_M_release ∈ gw_tbl := gw_of (lw_in2 79 rfl) rfl
theorem gl_L_61 : Cond.methodLink R_law 61 y_M_deadline ∈ gw_tbl := gw_of (lw_in2 83 rfl) rfl
theorem gl_L_65 : Cond.methodLink R_law 65 y_M_earliestEnd ∈ gw_tbl := gw_of (lw_in2 87 rfl) rfl
theorem gl_L_69 : Cond.methodLink R_law 69 y_M_latestBegin ∈ gw_tbl := gw_of (lw_in2 91 rfl) rfl
theorem gl_L_73 : Cond.methodLink R_law 73 y_M_earliestStart ∈ gw_tbl := gw_of (lw_in2 95 rfl) rfl
theorem gl_L_77 : Cond.methodLink R_law 77 y_M_latestStart ∈ gw_tbl := gw_of (lw_in2 99 rfl) rfl
theorem gl_L_81 : Cond.methodLink R_law 81 y_M_open ∈ gw_tbl := gw_of (lw_in2 103 rfl) rfl
theorem gl_L_85 : Cond.methodLink R_law 85 y_M_plannedStart ∈ gw_tbl := gw_of (lw_in2 107 rfl) rfl
theorem gf_P_44 : Cond.fieldLink R_P 44 "EqualJobPlanner" "length" "I" ∈ gw_tbl := gw_of (lw_in1 11 rfl) rfl
theorem gf_P_48 : Cond.fieldLink R_P 48 "EqualJobPlanner" "capacity" "I" ∈ gw_tbl := gw_of (lw_in1 12 rfl) rfl
theorem gf_P_7 : Cond.fieldLink R_P 7 "EqualJobPlanner" "used" "[Z" ∈ gw_tbl := gw_of (lw_in1 13 rfl) rfl
theorem gf_P_13 : Cond.fieldLink R_P 13 "EqualJobPlanner" "from" "[B" ∈ gw_tbl := gw_of (lw_in1 14 rfl) rfl
theorem gf_P_17 : Cond.fieldLink R_P 17 "EqualJobPlanner" "until" "[B" ∈ gw_tbl := gw_of (lw_in1 15 rfl) rfl
theorem gf_P_20 : Cond.fieldLink R_P 20 "EqualJobPlanner" "blockUsed" "[Z" ∈ gw_tbl := gw_of (lw_in1 16 rfl) rfl
theorem gf_P_23 : Cond.fieldLink R_P 23 "EqualJobPlanner" "blockFrom" "[B" ∈ gw_tbl := gw_of (lw_in1 17 rfl) rfl
theorem gf_P_26 : Cond.fieldLink R_P 26 "EqualJobPlanner" "blockUntil" "[B" ∈ gw_tbl := gw_of (lw_in1 18 rfl) rfl
theorem gf_P_101 : Cond.fieldLink R_P 101 "EqualJobPlanner" "asked" "I" ∈ gw_tbl := gw_of (lw_in1 19 rfl) rfl
theorem gf_P_29 : Cond.fieldLink R_P 29 "EqualJobPlanner" "askFrom" "[B" ∈ gw_tbl := gw_of (lw_in1 20 rfl) rfl
theorem gf_P_32 : Cond.fieldLink R_P 32 "EqualJobPlanner" "askUntil" "[B" ∈ gw_tbl := gw_of (lw_in1 21 rfl) rfl
theorem gf_P_35 : Cond.fieldLink R_P 35 "EqualJobPlanner" "placed" "[Z" ∈ gw_tbl := gw_of (lw_in1 22 rfl) rfl
theorem gf_P_38 : Cond.fieldLink R_P 38 "EqualJobPlanner" "shut" "[Z" ∈ gw_tbl := gw_of (lw_in1 23 rfl) rfl
theorem gf_P_86 : Cond.fieldLink R_P 86 "EqualJobPlanner" "lastEnd" "I" ∈ gw_tbl := gw_of (lw_in1 24 rfl) rfl
theorem gf_P_55 : Cond.fieldLink R_P 55 "EqualJobPlanner" "planKnown" "Z" ∈ gw_tbl := gw_of (lw_in1 25 rfl) rfl
theorem gf_P_41 : Cond.fieldLink R_P 41 "EqualJobPlanner" "plan" "[B" ∈ gw_tbl := gw_of (lw_in1 26 rfl) rfl
theorem gf_M_38 : Cond.fieldLink R_M 38 "EqualJobPlannerModel" "len" "I" ∈ gw_tbl := gw_of (lw_in1 220 rfl) rfl
theorem gf_M_42 : Cond.fieldLink R_M 42 "EqualJobPlannerModel" "cap" "I" ∈ gw_tbl := gw_of (lw_in1 221 rfl) rfl
theorem gf_M_7 : Cond.fieldLink R_M 7 "EqualJobPlannerModel" "held" "[Z" ∈ gw_tbl := gw_of (lw_in1 222 rfl) rfl
theorem gf_M_13 : Cond.fieldLink R_M 13 "EqualJobPlannerModel" "rel" "[I" ∈ gw_tbl := gw_of (lw_in1 223 rfl) rfl
theorem gf_M_17 : Cond.fieldLink R_M 17 "EqualJobPlannerModel" "dead" "[I" ∈ gw_tbl := gw_of (lw_in1 224 rfl) rfl
theorem gf_M_20 : Cond.fieldLink R_M 20 "EqualJobPlannerModel" "shut" "[Z" ∈ gw_tbl := gw_of (lw_in1 225 rfl) rfl
theorem gf_M_23 : Cond.fieldLink R_M 23 "EqualJobPlannerModel" "from" "[I" ∈ gw_tbl := gw_of (lw_in1 226 rfl) rfl
theorem gf_M_26 : Cond.fieldLink R_M 26 "EqualJobPlannerModel" "to" "[I" ∈ gw_tbl := gw_of (lw_in1 227 rfl) rfl
theorem gf_M_45 : Cond.fieldLink R_M 45 "EqualJobPlannerModel" "all" "I" ∈ gw_tbl := gw_of (lw_in1 228 rfl) rfl
theorem gf_M_29 : Cond.fieldLink R_M 29 "EqualJobPlannerModel" "lo" "[I" ∈ gw_tbl := gw_of (lw_in1 229 rfl) rfl
theorem gf_M_32 : Cond.fieldLink R_M 32 "EqualJobPlannerModel" "hi" "[I" ∈ gw_tbl := gw_of (lw_in1 230 rfl) rfl
theorem gf_M_35 : Cond.fieldLink R_M 35 "EqualJobPlannerModel" "can" "[Z" ∈ gw_tbl := gw_of (lw_in1 231 rfl) rfl
end
section
-- DECODE ROWS: printed by gen/gen.py
theorem d_P_init_0 : decode b_P_init 0 = .ok (.aload_n 0, 1) := by decide +kernel
theorem d_P_init_1 : decode b_P_init 1 = .ok (.invokespecial 1, 3) := by decide +kernel
theorem d_P_init_4 : decode b_P_init 4 = .ok (.aload_n 0, 1) := by decide +kernel
theorem d_P_init_5 : decode b_P_init 5 = .ok (.bipush 8, 2) := by decide +kernel
theorem d_P_init_7 : decode b_P_init 7 = .ok (.newarray .boolean, 2) := by decide +kernel
theorem d_P_init_9 : decode b_P_init 9 = .ok (.putfield 7, 3) := by decide +kernel
theorem d_P_init_12 : decode b_P_init 12 = .ok (.aload_n 0, 1) := by decide +kernel
theorem d_P_init_13 : decode b_P_init 13 = .ok (.bipush 8, 2) := by decide +kernel
theorem d_P_init_15 : decode b_P_init 15 = .ok (.newarray .byte, 2) := by decide +kernel
theorem d_P_init_17 : decode b_P_init 17 = .ok (.putfield 13, 3) := by decide +kernel
theorem d_P_init_20 : decode b_P_init 20 = .ok (.aload_n 0, 1) := by decide +kernel
theorem d_P_init_21 : decode b_P_init 21 = .ok (.bipush 8, 2) := by decide +kernel
theorem d_P_init_23 : decode b_P_init 23 = .ok (.newarray .byte, 2) := by decide +kernel
theorem d_P_init_25 : decode b_P_init 25 = .ok (.putfield 17, 3) := by decide +kernel
theorem d_P_init_28 : decode b_P_init 28 = .ok (.aload_n 0, 1) := by decide +kernel
theorem d_P_init_29 : decode b_P_init 29 = .ok (.iconst 4, 1) := by decide +kernel
theorem d_P_init_30 : decode b_P_init 30 = .ok (.newarray .boolean, 2) := by decide +kernel
theorem d_P_init_32 : decode b_P_init 32 = .ok (.putfield 20, 3) := by decide +kernel
theorem d_P_init_35 : decode b_P_init 35 = .ok (.aload_n 0, 1) := by decide +kernel
theorem d_P_init_36 : decode b_P_init 36 = .ok (.iconst 4, 1) := by decide +kernel
theorem d_P_init_37 : decode b_P_init 37 = .ok (.newarray .byte, 2) := by decide +kernel
theorem d_P_init_39 : decode b_P_init 39 = .ok (.putfield 23, 3) := by decide +kernel
theorem d_P_init_42 : decode b_P_init 42 = .ok (.aload_n 0, 1) := by decide +kernel
theorem d_P_init_43 : decode b_P_init 43 = .ok (.iconst 4, 1) := by decide +kernel
theorem d_P_init_44 : decode b_P_init 44 = .ok (.newarray .byte, 2) := by decide +kernel
theorem d_P_init_46 : decode b_P_init 46 = .ok (.putfield 26, 3) := by decide +kernel
theorem d_P_init_49 : decode b_P_init 49 = .ok (.aload_n 0, 1) := by decide +kernel
theorem d_P_init_50 : decode b_P_init 50 = .ok (.bipush 8, 2) := by decide +kernel
theorem d_P_init_52 : decode b_P_init 52 = .ok (.newarray .byte, 2) := by decide +kernel
theorem d_P_init_54 : decode b_P_init 54 = .ok (.putfield 29, 3) := by decide +kernel
theorem d_P_init_57 : decode b_P_init 57 = .ok (.aload_n 0, 1) := by decide +kernel
theorem d_P_init_58 : decode b_P_init 58 = .ok (.bipush 8, 2) := by decide +kernel
theorem d_P_init_60 : decode b_P_init 60 = .ok (.newarray .byte, 2) := by decide +kernel
theorem d_P_init_62 : decode b_P_init 62 = .ok (.putfield 32, 3) := by decide +kernel
theorem d_P_init_65 : decode b_P_init 65 = .ok (.aload_n 0, 1) := by decide +kernel
theorem d_P_init_66 : decode b_P_init 66 = .ok (.bipush 8, 2) := by decide +kernel
theorem d_P_init_68 : decode b_P_init 68 = .ok (.newarray .boolean, 2) := by decide +kernel
theorem d_P_init_70 : decode b_P_init 70 = .ok (.putfield 35, 3) := by decide +kernel
theorem d_P_init_73 : decode b_P_init 73 = .ok (.aload_n 0, 1) := by decide +kernel
theorem d_P_init_74 : decode b_P_init 74 = .ok (.bipush 48, 2) := by decide +kernel
theorem d_P_init_76 : decode b_P_init 76 = .ok (.newarray .boolean, 2) := by decide +kernel
theorem d_P_init_78 : decode b_P_init 78 = .ok (.putfield 38, 3) := by decide +kernel
theorem d_P_init_81 : decode b_P_init 81 = .ok (.aload_n 0, 1) := by decide +kernel
theorem d_P_init_82 : decode b_P_init 82 = .ok (.bipush 8, 2) := by decide +kernel
theorem d_P_init_84 : decode b_P_init 84 = .ok (.newarray .byte, 2) := by decide +kernel
theorem d_P_init_86 : decode b_P_init 86 = .ok (.putfield 41, 3) := by decide +kernel
theorem d_P_init_89 : decode b_P_init 89 = .ok (.aload_n 0, 1) := by decide +kernel
theorem d_P_init_90 : decode b_P_init 90 = .ok (.iload_n 1, 1) := by decide +kernel
theorem d_P_init_91 : decode b_P_init 91 = .ok (.iconst 1, 1) := by decide +kernel
theorem d_P_init_92 : decode b_P_init 92 = .ok (.if_icmp .ge 7, 3) := by decide +kernel
theorem d_P_init_95 : decode b_P_init 95 = .ok (.iconst 1, 1) := by decide +kernel
theorem d_P_init_96 : decode b_P_init 96 = .ok (.goto 15, 3) := by decide +kernel
theorem d_P_init_99 : decode b_P_init 99 = .ok (.iload_n 1, 1) := by decide +kernel
theorem d_P_init_100 : decode b_P_init 100 = .ok (.bipush 6, 2) := by decide +kernel
theorem d_P_init_102 : decode b_P_init 102 = .ok (.if_icmp .le 8, 3) := by decide +kernel
theorem d_P_init_105 : decode b_P_init 105 = .ok (.bipush 6, 2) := by decide +kernel
theorem d_P_init_107 : decode b_P_init 107 = .ok (.goto 4, 3) := by decide +kernel
theorem d_P_init_110 : decode b_P_init 110 = .ok (.iload_n 1, 1) := by decide +kernel
theorem d_P_init_111 : decode b_P_init 111 = .ok (.putfield 44, 3) := by decide +kernel
theorem d_P_init_114 : decode b_P_init 114 = .ok (.aload_n 0, 1) := by decide +kernel
theorem d_P_init_115 : decode b_P_init 115 = .ok (.iload_n 2, 1) := by decide +kernel
theorem d_P_init_116 : decode b_P_init 116 = .ok (.iconst 1, 1) := by decide +kernel
theorem d_P_init_117 : decode b_P_init 117 = .ok (.if_icmp .ge 7, 3) := by decide +kernel
theorem d_P_init_120 : decode b_P_init 120 = .ok (.iconst 1, 1) := by decide +kernel
theorem d_P_init_121 : decode b_P_init 121 = .ok (.goto 15, 3) := by decide +kernel
theorem d_P_init_124 : decode b_P_init 124 = .ok (.iload_n 2, 1) := by decide +kernel
theorem d_P_init_125 : decode b_P_init 125 = .ok (.bipush 6, 2) := by decide +kernel
theorem d_P_init_127 : decode b_P_init 127 = .ok (.if_icmp .le 8, 3) := by decide +kernel
theorem d_P_init_130 : decode b_P_init 130 = .ok (.bipush 6, 2) := by decide +kernel
theorem d_P_init_132 : decode b_P_init 132 = .ok (.goto 4, 3) := by decide +kernel
theorem d_P_init_135 : decode b_P_init 135 = .ok (.iload_n 2, 1) := by decide +kernel
theorem d_P_init_136 : decode b_P_init 136 = .ok (.putfield 48, 3) := by decide +kernel
theorem d_P_init_139 : decode b_P_init 139 = .ok (.return_, 1) := by decide +kernel
theorem d_P_offer_0 : decode b_P_offer 0 = .ok (.aload_n 0, 1) := by decide +kernel
theorem d_P_offer_1 : decode b_P_offer 1 = .ok (.iload_n 1, 1) := by decide +kernel
theorem d_P_offer_2 : decode b_P_offer 2 = .ok (.iload_n 2, 1) := by decide +kernel
theorem d_P_offer_3 : decode b_P_offer 3 = .ok (.invokevirtual 51, 3) := by decide +kernel
theorem d_P_offer_6 : decode b_P_offer 6 = .ok (.istore_n 3, 1) := by decide +kernel
theorem d_P_offer_7 : decode b_P_offer 7 = .ok (.iload_n 3, 1) := by decide +kernel
theorem d_P_offer_8 : decode b_P_offer 8 = .ok (.ifCond .lt 31, 3) := by decide +kernel
theorem d_P_offer_11 : decode b_P_offer 11 = .ok (.aload_n 0, 1) := by decide +kernel
theorem d_P_offer_12 : decode b_P_offer 12 = .ok (.getfield 7, 3) := by decide +kernel
theorem d_P_offer_15 : decode b_P_offer 15 = .ok (.iload_n 3, 1) := by decide +kernel
theorem d_P_offer_16 : decode b_P_offer 16 = .ok (.iconst 1, 1) := by decide +kernel
theorem d_P_offer_17 : decode b_P_offer 17 = .ok (.bastore, 1) := by decide +kernel
theorem d_P_offer_18 : decode b_P_offer 18 = .ok (.aload_n 0, 1) := by decide +kernel
theorem d_P_offer_19 : decode b_P_offer 19 = .ok (.getfield 13, 3) := by decide +kernel
theorem d_P_offer_22 : decode b_P_offer 22 = .ok (.iload_n 3, 1) := by decide +kernel
theorem d_P_offer_23 : decode b_P_offer 23 = .ok (.iload_n 1, 1) := by decide +kernel
theorem d_P_offer_24 : decode b_P_offer 24 = .ok (.i2b, 1) := by decide +kernel
theorem d_P_offer_25 : decode b_P_offer 25 = .ok (.bastore, 1) := by decide +kernel
theorem d_P_offer_26 : decode b_P_offer 26 = .ok (.aload_n 0, 1) := by decide +kernel
theorem d_P_offer_27 : decode b_P_offer 27 = .ok (.getfield 17, 3) := by decide +kernel
theorem d_P_offer_30 : decode b_P_offer 30 = .ok (.iload_n 3, 1) := by decide +kernel
theorem d_P_offer_31 : decode b_P_offer 31 = .ok (.iload_n 2, 1) := by decide +kernel
theorem d_P_offer_32 : decode b_P_offer 32 = .ok (.i2b, 1) := by decide +kernel
theorem d_P_offer_33 : decode b_P_offer 33 = .ok (.bastore, 1) := by decide +kernel
theorem d_P_offer_34 : decode b_P_offer 34 = .ok (.aload_n 0, 1) := by decide +kernel
theorem d_P_offer_35 : decode b_P_offer 35 = .ok (.iconst 0, 1) := by decide +kernel
theorem d_P_offer_36 : decode b_P_offer 36 = .ok (.putfield 55, 3) := by decide +kernel
theorem d_P_offer_39 : decode b_P_offer 39 = .ok (.iload_n 3, 1) := by decide +kernel
theorem d_P_offer_40 : decode b_P_offer 40 = .ok (.ireturn, 1) := by decide +kernel
theorem d_P_probe_0 : decode b_P_probe 0 = .ok (.aload_n 0, 1) := by decide +kernel
theorem d_P_probe_1 : decode b_P_probe 1 = .ok (.iload_n 1, 1) := by decide +kernel
theorem d_P_probe_2 : decode b_P_probe 2 = .ok (.iload_n 2, 1) := by decide +kernel
theorem d_P_probe_3 : decode b_P_probe 3 = .ok (.invokevirtual 59, 3) := by decide +kernel
theorem d_P_probe_6 : decode b_P_probe 6 = .ok (.ifCond .ne 5, 3) := by decide +kernel
theorem d_P_probe_9 : decode b_P_probe 9 = .ok (.iconst (-1), 1) := by decide +kernel
theorem d_P_probe_10 : decode b_P_probe 10 = .ok (.ireturn, 1) := by decide +kernel
theorem d_P_probe_11 : decode b_P_probe 11 = .ok (.aload_n 0, 1) := by decide +kernel
theorem d_P_probe_12 : decode b_P_probe 12 = .ok (.invokevirtual 63, 3) := by decide +kernel
theorem d_P_probe_15 : decode b_P_probe 15 = .ok (.istore_n 3, 1) := by decide +kernel
theorem d_P_probe_16 : decode b_P_probe 16 = .ok (.iload_n 3, 1) := by decide +kernel
theorem d_P_probe_17 : decode b_P_probe 17 = .ok (.ifCond .ge 6, 3) := by decide +kernel
theorem d_P_probe_20 : decode b_P_probe 20 = .ok (.bipush (-2), 2) := by decide +kernel
theorem d_P_probe_22 : decode b_P_probe 22 = .ok (.ireturn, 1) := by decide +kernel
theorem d_P_probe_23 : decode b_P_probe 23 = .ok (.aload_n 0, 1) := by decide +kernel
theorem d_P_probe_24 : decode b_P_probe 24 = .ok (.invokevirtual 67, 3) := by decide +kernel
theorem d_P_probe_27 : decode b_P_probe 27 = .ok (.aload_n 0, 1) := by decide +kernel
theorem d_P_probe_28 : decode b_P_probe 28 = .ok (.iload_n 1, 1) := by decide +kernel
theorem d_P_probe_29 : decode b_P_probe 29 = .ok (.iload_n 2, 1) := by decide +kernel
theorem d_P_probe_30 : decode b_P_probe 30 = .ok (.invokevirtual 70, 3) := by decide +kernel
theorem d_P_probe_33 : decode b_P_probe 33 = .ok (.aload_n 0, 1) := by decide +kernel
theorem d_P_probe_34 : decode b_P_probe 34 = .ok (.invokevirtual 74, 3) := by decide +kernel
theorem d_P_probe_37 : decode b_P_probe 37 = .ok (.ifCond .eq 7, 3) := by decide +kernel
theorem d_P_probe_40 : decode b_P_probe 40 = .ok (.iload_n 3, 1) := by decide +kernel
theorem d_P_probe_41 : decode b_P_probe 41 = .ok (.goto 5, 3) := by decide +kernel
theorem d_P_probe_44 : decode b_P_probe 44 = .ok (.bipush (-3), 2) := by decide +kernel
theorem d_P_probe_46 : decode b_P_probe 46 = .ok (.ireturn, 1) := by decide +kernel
theorem d_P_move_0 : decode b_P_move 0 = .ok (.aload_n 0, 1) := by decide +kernel
theorem d_P_move_1 : decode b_P_move 1 = .ok (.iload_n 1, 1) := by decide +kernel
theorem d_P_move_2 : decode b_P_move 2 = .ok (.invokevirtual 78, 3) := by decide +kernel
theorem d_P_move_5 : decode b_P_move 5 = .ok (.ifCond .ne 6, 3) := by decide +kernel
theorem d_P_move_8 : decode b_P_move 8 = .ok (.bipush (-2), 2) := by decide +kernel
theorem d_P_move_10 : decode b_P_move 10 = .ok (.ireturn, 1) := by decide +kernel
theorem d_P_move_11 : decode b_P_move 11 = .ok (.aload_n 0, 1) := by decide +kernel
theorem d_P_move_12 : decode b_P_move 12 = .ok (.iload_n 2, 1) := by decide +kernel
theorem d_P_move_13 : decode b_P_move 13 = .ok (.iload_n 3, 1) := by decide +kernel
theorem d_P_move_14 : decode b_P_move 14 = .ok (.invokevirtual 59, 3) := by decide +kernel
theorem d_P_move_17 : decode b_P_move 17 = .ok (.ifCond .ne 5, 3) := by decide +kernel
theorem d_P_move_20 : decode b_P_move 20 = .ok (.iconst (-1), 1) := by decide +kernel
theorem d_P_move_21 : decode b_P_move 21 = .ok (.ireturn, 1) := by decide +kernel
theorem d_P_move_22 : decode b_P_move 22 = .ok (.aload_n 0, 1) := by decide +kernel
theorem d_P_move_23 : decode b_P_move 23 = .ok (.iload_n 1, 1) := by decide +kernel
theorem d_P_move_24 : decode b_P_move 24 = .ok (.invokevirtual 82, 3) := by decide +kernel
theorem d_P_move_27 : decode b_P_move 27 = .ok (.aload_n 0, 1) := by decide +kernel
theorem d_P_move_28 : decode b_P_move 28 = .ok (.iload_n 2, 1) := by decide +kernel
theorem d_P_move_29 : decode b_P_move 29 = .ok (.iload_n 3, 1) := by decide +kernel
theorem d_P_move_30 : decode b_P_move 30 = .ok (.invokevirtual 70, 3) := by decide +kernel
theorem d_P_move_33 : decode b_P_move 33 = .ok (.aload_n 0, 1) := by decide +kernel
theorem d_P_move_34 : decode b_P_move 34 = .ok (.invokevirtual 74, 3) := by decide +kernel
theorem d_P_move_37 : decode b_P_move 37 = .ok (.ifCond .ne 6, 3) := by decide +kernel
theorem d_P_move_40 : decode b_P_move 40 = .ok (.bipush (-3), 2) := by decide +kernel
theorem d_P_move_42 : decode b_P_move 42 = .ok (.ireturn, 1) := by decide +kernel
theorem d_P_move_43 : decode b_P_move 43 = .ok (.aload_n 0, 1) := by decide +kernel
theorem d_P_move_44 : decode b_P_move 44 = .ok (.getfield 13, 3) := by decide +kernel
theorem d_P_move_47 : decode b_P_move 47 = .ok (.iload_n 1, 1) := by decide +kernel
theorem d_P_move_48 : decode b_P_move 48 = .ok (.iload_n 2, 1) := by decide +kernel
theorem d_P_move_49 : decode b_P_move 49 = .ok (.i2b, 1) := by decide +kernel
theorem d_P_move_50 : decode b_P_move 50 = .ok (.bastore, 1) := by decide +kernel
theorem d_P_move_51 : decode b_P_move 51 = .ok (.aload_n 0, 1) := by decide +kernel
theorem d_P_move_52 : decode b_P_move 52 = .ok (.getfield 17, 3) := by decide +kernel
theorem d_P_move_55 : decode b_P_move 55 = .ok (.iload_n 1, 1) := by decide +kernel
theorem d_P_move_56 : decode b_P_move 56 = .ok (.iload_n 3, 1) := by decide +kernel
theorem d_P_move_57 : decode b_P_move 57 = .ok (.i2b, 1) := by decide +kernel
theorem d_P_move_58 : decode b_P_move 58 = .ok (.bastore, 1) := by decide +kernel
theorem d_P_move_59 : decode b_P_move 59 = .ok (.aload_n 0, 1) := by decide +kernel
theorem d_P_move_60 : decode b_P_move 60 = .ok (.iconst 0, 1) := by decide +kernel
theorem d_P_move_61 : decode b_P_move 61 = .ok (.putfield 55, 3) := by decide +kernel
theorem d_P_move_64 : decode b_P_move 64 = .ok (.iload_n 1, 1) := by decide +kernel
theorem d_P_move_65 : decode b_P_move 65 = .ok (.ireturn, 1) := by decide +kernel
theorem d_P_withdraw_0 : decode b_P_withdraw 0 = .ok (.aload_n 0, 1) := by decide +kernel
theorem d_P_withdraw_1 : decode b_P_withdraw 1 = .ok (.iload_n 1, 1) := by decide +kernel
theorem d_P_withdraw_2 : decode b_P_withdraw 2 = .ok (.invokevirtual 78, 3) := by decide +kernel
theorem d_P_withdraw_5 : decode b_P_withdraw 5 = .ok (.ifCond .ne 5, 3) := by decide +kernel
theorem d_P_withdraw_8 : decode b_P_withdraw 8 = .ok (.iconst 0, 1) := by decide +kernel
theorem d_P_withdraw_9 : decode b_P_withdraw 9 = .ok (.ireturn, 1) := by decide +kernel
theorem d_P_withdraw_10 : decode b_P_withdraw 10 = .ok (.aload_n 0, 1) := by decide +kernel
theorem d_P_withdraw_11 : decode b_P_withdraw 11 = .ok (.getfield 7, 3) := by decide +kernel
theorem d_P_withdraw_14 : decode b_P_withdraw 14 = .ok (.iload_n 1, 1) := by decide +kernel
theorem d_P_withdraw_15 : decode b_P_withdraw 15 = .ok (.iconst 0, 1) := by decide +kernel
theorem d_P_withdraw_16 : decode b_P_withdraw 16 = .ok (.bastore, 1) := by decide +kernel
theorem d_P_withdraw_17 : decode b_P_withdraw 17 = .ok (.aload_n 0, 1) := by decide +kernel
theorem d_P_withdraw_18 : decode b_P_withdraw 18 = .ok (.iconst 0, 1) := by decide +kernel
theorem d_P_withdraw_19 : decode b_P_withdraw 19 = .ok (.putfield 55, 3) := by decide +kernel
theorem d_P_withdraw_22 : decode b_P_withdraw 22 = .ok (.iconst 1, 1) := by decide +kernel
theorem d_P_withdraw_23 : decode b_P_withdraw 23 = .ok (.ireturn, 1) := by decide +kernel
theorem d_P_block_0 : decode b_P_block 0 = .ok (.iload_n 1, 1) := by decide +kernel
theorem d_P_block_1 : decode b_P_block 1 = .ok (.ifCond .lt 14, 3) := by decide +kernel
theorem d_P_block_4 : decode b_P_block 4 = .ok (.iload_n 2, 1) := by decide +kernel
theorem d_P_block_5 : decode b_P_block 5 = .ok (.bipush 40, 2) := by decide +kernel
theorem d_P_block_7 : decode b_P_block 7 = .ok (.if_icmp .gt 8, 3) := by decide +kernel
theorem d_P_block_10 : decode b_P_block 10 = .ok (.iload_n 1, 1) := by decide +kernel
theorem d_P_block_11 : decode b_P_block 11 = .ok (.iload_n 2, 1) := by decide +kernel
theorem d_P_block_12 : decode b_P_block 12 = .ok (.if_icmp .lt 5, 3) := by decide +kernel
theorem d_P_block_15 : decode b_P_block 15 = .ok (.iconst (-1), 1) := by decide +kernel
theorem d_P_block_16 : decode b_P_block 16 = .ok (.ireturn, 1) := by decide +kernel
theorem d_P_block_17 : decode b_P_block 17 = .ok (.iconst 0, 1) := by decide +kernel
theorem d_P_block_18 : decode b_P_block 18 = .ok (.istore_n 3, 1) := by decide +kernel
theorem d_P_block_19 : decode b_P_block 19 = .ok (.iload_n 3, 1) := by decide +kernel
theorem d_P_block_20 : decode b_P_block 20 = .ok (.iconst 4, 1) := by decide +kernel
theorem d_P_block_21 : decode b_P_block 21 = .ok (.if_icmp .ge 18, 3) := by decide +kernel
theorem d_P_block_24 : decode b_P_block 24 = .ok (.aload_n 0, 1) := by decide +kernel
theorem d_P_block_25 : decode b_P_block 25 = .ok (.getfield 20, 3) := by decide +kernel
theorem d_P_block_28 : decode b_P_block 28 = .ok (.iload_n 3, 1) := by decide +kernel
theorem d_P_block_29 : decode b_P_block 29 = .ok (.baload, 1) := by decide +kernel
theorem d_P_block_30 : decode b_P_block 30 = .ok (.ifCond .eq 9, 3) := by decide +kernel
theorem d_P_block_33 : decode b_P_block 33 = .ok (.iinc 3 1, 3) := by decide +kernel
theorem d_P_block_36 : decode b_P_block 36 = .ok (.goto (-17), 3) := by decide +kernel
theorem d_P_block_39 : decode b_P_block 39 = .ok (.iload_n 3, 1) := by decide +kernel
theorem d_P_block_40 : decode b_P_block 40 = .ok (.iconst 4, 1) := by decide +kernel
theorem d_P_block_41 : decode b_P_block 41 = .ok (.if_icmp .lt 6, 3) := by decide +kernel
theorem d_P_block_44 : decode b_P_block 44 = .ok (.bipush (-2), 2) := by decide +kernel
theorem d_P_block_46 : decode b_P_block 46 = .ok (.ireturn, 1) := by decide +kernel
theorem d_P_block_47 : decode b_P_block 47 = .ok (.aload_n 0, 1) := by decide +kernel
theorem d_P_block_48 : decode b_P_block 48 = .ok (.getfield 20, 3) := by decide +kernel
theorem d_P_block_51 : decode b_P_block 51 = .ok (.iload_n 3, 1) := by decide +kernel
theorem d_P_block_52 : decode b_P_block 52 = .ok (.iconst 1, 1) := by decide +kernel
theorem d_P_block_53 : decode b_P_block 53 = .ok (.bastore, 1) := by decide +kernel
theorem d_P_block_54 : decode b_P_block 54 = .ok (.aload_n 0, 1) := by decide +kernel
theorem d_P_block_55 : decode b_P_block 55 = .ok (.getfield 23, 3) := by decide +kernel
theorem d_P_block_58 : decode b_P_block 58 = .ok (.iload_n 3, 1) := by decide +kernel
theorem d_P_block_59 : decode b_P_block 59 = .ok (.iload_n 1, 1) := by decide +kernel
theorem d_P_block_60 : decode b_P_block 60 = .ok (.i2b, 1) := by decide +kernel
theorem d_P_block_61 : decode b_P_block 61 = .ok (.bastore, 1) := by decide +kernel
theorem d_P_block_62 : decode b_P_block 62 = .ok (.aload_n 0, 1) := by decide +kernel
theorem d_P_block_63 : decode b_P_block 63 = .ok (.getfield 26, 3) := by decide +kernel
theorem d_P_block_66 : decode b_P_block 66 = .ok (.iload_n 3, 1) := by decide +kernel
theorem d_P_block_67 : decode b_P_block 67 = .ok (.iload_n 2, 1) := by decide +kernel
theorem d_P_block_68 : decode b_P_block 68 = .ok (.i2b, 1) := by decide +kernel
theorem d_P_block_69 : decode b_P_block 69 = .ok (.bastore, 1) := by decide +kernel
theorem d_P_block_70 : decode b_P_block 70 = .ok (.aload_n 0, 1) := by decide +kernel
theorem d_P_block_71 : decode b_P_block 71 = .ok (.invokevirtual 67, 3) := by decide +kernel
theorem d_P_block_74 : decode b_P_block 74 = .ok (.aload_n 0, 1) := by decide +kernel
theorem d_P_block_75 : decode b_P_block 75 = .ok (.invokevirtual 74, 3) := by decide +kernel
theorem d_P_block_78 : decode b_P_block 78 = .ok (.ifCond .ne 13, 3) := by decide +kernel
theorem d_P_block_81 : decode b_P_block 81 = .ok (.aload_n 0, 1) := by decide +kernel
theorem d_P_block_82 : decode b_P_block 82 = .ok (.getfield 20, 3) := by decide +kernel
theorem d_P_block_85 : decode b_P_block 85 = .ok (.iload_n 3, 1) := by decide +kernel
theorem d_P_block_86 : decode b_P_block 86 = .ok (.iconst 0, 1) := by decide +kernel
theorem d_P_block_87 : decode b_P_block 87 = .ok (.bastore, 1) := by decide +kernel
theorem d_P_block_88 : decode b_P_block 88 = .ok (.bipush (-3), 2) := by decide +kernel
theorem d_P_block_90 : decode b_P_block 90 = .ok (.ireturn, 1) := by decide +kernel
theorem d_P_block_91 : decode b_P_block 91 = .ok (.aload_n 0, 1) := by decide +kernel
theorem d_P_block_92 : decode b_P_block 92 = .ok (.iconst 0, 1) := by decide +kernel
theorem d_P_block_93 : decode b_P_block 93 = .ok (.putfield 55, 3) := by decide +kernel
theorem d_P_block_96 : decode b_P_block 96 = .ok (.iload_n 3, 1) := by decide +kernel
theorem d_P_block_97 : decode b_P_block 97 = .ok (.ireturn, 1) := by decide +kernel
theorem d_P_unblock_0 : decode b_P_unblock 0 = .ok (.iload_n 1, 1) := by decide +kernel
theorem d_P_unblock_1 : decode b_P_unblock 1 = .ok (.ifCond .lt 17, 3) := by decide +kernel
theorem d_P_unblock_4 : decode b_P_unblock 4 = .ok (.iload_n 1, 1) := by decide +kernel
theorem d_P_unblock_5 : decode b_P_unblock 5 = .ok (.iconst 4, 1) := by decide +kernel
theorem d_P_unblock_6 : decode b_P_unblock 6 = .ok (.if_icmp .ge 12, 3) := by decide +kernel
theorem d_P_unblock_9 : decode b_P_unblock 9 = .ok (.aload_n 0, 1) := by decide +kernel
theorem d_P_unblock_10 : decode b_P_unblock 10 = .ok (.getfield 20, 3) := by decide +kernel
theorem d_P_unblock_13 : decode b_P_unblock 13 = .ok (.iload_n 1, 1) := by decide +kernel
theorem d_P_unblock_14 : decode b_P_unblock 14 = .ok (.baload, 1) := by decide +kernel
theorem d_P_unblock_15 : decode b_P_unblock 15 = .ok (.ifCond .ne 5, 3) := by decide +kernel
theorem d_P_unblock_18 : decode b_P_unblock 18 = .ok (.iconst 0, 1) := by decide +kernel
theorem d_P_unblock_19 : decode b_P_unblock 19 = .ok (.ireturn, 1) := by decide +kernel
theorem d_P_unblock_20 : decode b_P_unblock 20 = .ok (.aload_n 0, 1) := by decide +kernel
theorem d_P_unblock_21 : decode b_P_unblock 21 = .ok (.getfield 20, 3) := by decide +kernel
theorem d_P_unblock_24 : decode b_P_unblock 24 = .ok (.iload_n 1, 1) := by decide +kernel
theorem d_P_unblock_25 : decode b_P_unblock 25 = .ok (.iconst 0, 1) := by decide +kernel
theorem d_P_unblock_26 : decode b_P_unblock 26 = .ok (.bastore, 1) := by decide +kernel
theorem d_P_unblock_27 : decode b_P_unblock 27 = .ok (.aload_n 0, 1) := by decide +kernel
theorem d_P_unblock_28 : decode b_P_unblock 28 = .ok (.iconst 0, 1) := by decide +kernel
theorem d_P_unblock_29 : decode b_P_unblock 29 = .ok (.putfield 55, 3) := by decide +kernel
theorem d_P_unblock_32 : decode b_P_unblock 32 = .ok (.iconst 1, 1) := by decide +kernel
theorem d_P_unblock_33 : decode b_P_unblock 33 = .ok (.ireturn, 1) := by decide +kernel
theorem d_P_windowOk_0 : decode b_P_windowOk 0 = .ok (.iload_n 1, 1) := by decide +kernel
theorem d_P_windowOk_1 : decode b_P_windowOk 1 = .ok (.ifCond .lt 33, 3) := by decide +kernel
theorem d_P_windowOk_4 : decode b_P_windowOk 4 = .ok (.iload_n 2, 1) := by decide +kernel
theorem d_P_windowOk_5 : decode b_P_windowOk 5 = .ok (.bipush 40, 2) := by decide +kernel
theorem d_P_windowOk_7 : decode b_P_windowOk 7 = .ok (.if_icmp .gt 27, 3) := by decide +kernel
theorem d_P_windowOk_10 : decode b_P_windowOk 10 = .ok (.iload_n 1, 1) := by decide +kernel
theorem d_P_windowOk_11 : decode b_P_windowOk 11 = .ok (.bipush 40, 2) := by decide +kernel
theorem d_P_windowOk_13 : decode b_P_windowOk 13 = .ok (.if_icmp .gt 21, 3) := by decide +kernel
theorem d_P_windowOk_16 : decode b_P_windowOk 16 = .ok (.iload_n 2, 1) := by decide +kernel
theorem d_P_windowOk_17 : decode b_P_windowOk 17 = .ok (.ifCond .lt 17, 3) := by decide +kernel
theorem d_P_windowOk_20 : decode b_P_windowOk 20 = .ok (.iload_n 2, 1) := by decide +kernel
theorem d_P_windowOk_21 : decode b_P_windowOk 21 = .ok (.iload_n 1, 1) := by decide +kernel
theorem d_P_windowOk_22 : decode b_P_windowOk 22 = .ok (.isub, 1) := by decide +kernel
theorem d_P_windowOk_23 : decode b_P_windowOk 23 = .ok (.aload_n 0, 1) := by decide +kernel
theorem d_P_windowOk_24 : decode b_P_windowOk 24 = .ok (.getfield 44, 3) := by decide +kernel
theorem d_P_windowOk_27 : decode b_P_windowOk 27 = .ok (.if_icmp .lt 7, 3) := by decide +kernel
theorem d_P_windowOk_30 : decode b_P_windowOk 30 = .ok (.iconst 1, 1) := by decide +kernel
theorem d_P_windowOk_31 : decode b_P_windowOk 31 = .ok (.goto 4, 3) := by decide +kernel
theorem d_P_windowOk_34 : decode b_P_windowOk 34 = .ok (.iconst 0, 1) := by decide +kernel
theorem d_P_windowOk_35 : decode b_P_windowOk 35 = .ok (.ireturn, 1) := by decide +kernel
theorem d_P_holds_0 : decode b_P_holds 0 = .ok (.iload_n 1, 1) := by decide +kernel
theorem d_P_holds_1 : decode b_P_holds 1 = .ok (.ifCond .lt 24, 3) := by decide +kernel
theorem d_P_holds_4 : decode b_P_holds 4 = .ok (.iload_n 1, 1) := by decide +kernel
theorem d_P_holds_5 : decode b_P_holds 5 = .ok (.aload_n 0, 1) := by decide +kernel
theorem d_P_holds_6 : decode b_P_holds 6 = .ok (.getfield 48, 3) := by decide +kernel
theorem d_P_holds_9 : decode b_P_holds 9 = .ok (.if_icmp .ge 16, 3) := by decide +kernel
theorem d_P_holds_12 : decode b_P_holds 12 = .ok (.aload_n 0, 1) := by decide +kernel
theorem d_P_holds_13 : decode b_P_holds 13 = .ok (.getfield 7, 3) := by decide +kernel
theorem d_P_holds_16 : decode b_P_holds 16 = .ok (.iload_n 1, 1) := by decide +kernel
theorem d_P_holds_17 : decode b_P_holds 17 = .ok (.baload, 1) := by decide +kernel
theorem d_P_holds_18 : decode b_P_holds 18 = .ok (.ifCond .eq 7, 3) := by decide +kernel
theorem d_P_holds_21 : decode b_P_holds 21 = .ok (.iconst 1, 1) := by decide +kernel
theorem d_P_holds_22 : decode b_P_holds 22 = .ok (.goto 4, 3) := by decide +kernel
theorem d_P_holds_25 : decode b_P_holds 25 = .ok (.iconst 0, 1) := by decide +kernel
theorem d_P_holds_26 : decode b_P_holds 26 = .ok (.ireturn, 1) := by decide +kernel
theorem d_P_freeNumber_0 : decode b_P_freeNumber 0 = .ok (.iconst 0, 1) := by decide +kernel
theorem d_P_freeNumber_1 : decode b_P_freeNumber 1 = .ok (.istore_n 1, 1) := by decide +kernel
theorem d_P_freeNumber_2 : decode b_P_freeNumber 2 = .ok (.iload_n 1, 1) := by decide +kernel
theorem d_P_freeNumber_3 : decode b_P_freeNumber 3 = .ok (.aload_n 0, 1) := by decide +kernel
theorem d_P_freeNumber_4 : decode b_P_freeNumber 4 = .ok (.getfield 48, 3) := by decide +kernel
theorem d_P_freeNumber_7 : decode b_P_freeNumber 7 = .ok (.if_icmp .ge 20, 3) := by decide +kernel
theorem d_P_freeNumber_10 : decode b_P_freeNumber 10 = .ok (.aload_n 0, 1) := by decide +kernel
theorem d_P_freeNumber_11 : decode b_P_freeNumber 11 = .ok (.getfield 7, 3) := by decide +kernel
theorem d_P_freeNumber_14 : decode b_P_freeNumber 14 = .ok (.iload_n 1, 1) := by decide +kernel
theorem d_P_freeNumber_15 : decode b_P_freeNumber 15 = .ok (.baload, 1) := by decide +kernel
theorem d_P_freeNumber_16 : decode b_P_freeNumber 16 = .ok (.ifCond .ne 5, 3) := by decide +kernel
theorem d_P_freeNumber_19 : decode b_P_freeNumber 19 = .ok (.iload_n 1, 1) := by decide +kernel
theorem d_P_freeNumber_20 : decode b_P_freeNumber 20 = .ok (.ireturn, 1) := by decide +kernel
theorem d_P_freeNumber_21 : decode b_P_freeNumber 21 = .ok (.iinc 1 1, 3) := by decide +kernel
theorem d_P_freeNumber_24 : decode b_P_freeNumber 24 = .ok (.goto (-22), 3) := by decide +kernel
theorem d_P_freeNumber_27 : decode b_P_freeNumber 27 = .ok (.iconst (-1), 1) := by decide +kernel
theorem d_P_freeNumber_28 : decode b_P_freeNumber 28 = .ok (.ireturn, 1) := by decide +kernel
theorem d_P_jobs_0 : decode b_P_jobs 0 = .ok (.iconst 0, 1) := by decide +kernel
theorem d_P_jobs_1 : decode b_P_jobs 1 = .ok (.istore_n 1, 1) := by decide +kernel
theorem d_P_jobs_2 : decode b_P_jobs 2 = .ok (.iconst 0, 1) := by decide +kernel
theorem d_P_jobs_3 : decode b_P_jobs 3 = .ok (.istore_n 2, 1) := by decide +kernel
theorem d_P_jobs_4 : decode b_P_jobs 4 = .ok (.iload_n 2, 1) := by decide +kernel
theorem d_P_jobs_5 : decode b_P_jobs 5 = .ok (.aload_n 0, 1) := by decide +kernel
theorem d_P_jobs_6 : decode b_P_jobs 6 = .ok (.getfield 48, 3) := by decide +kernel
theorem d_P_jobs_9 : decode b_P_jobs 9 = .ok (.if_icmp .ge 24, 3) := by decide +kernel
theorem d_P_jobs_12 : decode b_P_jobs 12 = .ok (.aload_n 0, 1) := by decide +kernel
theorem d_P_jobs_13 : decode b_P_jobs 13 = .ok (.getfield 7, 3) := by decide +kernel
theorem d_P_jobs_16 : decode b_P_jobs 16 = .ok (.iload_n 2, 1) := by decide +kernel
theorem d_P_jobs_17 : decode b_P_jobs 17 = .ok (.baload, 1) := by decide +kernel
theorem d_P_jobs_18 : decode b_P_jobs 18 = .ok (.ifCond .eq 9, 3) := by decide +kernel
theorem d_P_jobs_21 : decode b_P_jobs 21 = .ok (.iload_n 1, 1) := by decide +kernel
theorem d_P_jobs_22 : decode b_P_jobs 22 = .ok (.iconst 1, 1) := by decide +kernel
theorem d_P_jobs_23 : decode b_P_jobs 23 = .ok (.iload_n 2, 1) := by decide +kernel
theorem d_P_jobs_24 : decode b_P_jobs 24 = .ok (.ishl, 1) := by decide +kernel
theorem d_P_jobs_25 : decode b_P_jobs 25 = .ok (.ior, 1) := by decide +kernel
theorem d_P_jobs_26 : decode b_P_jobs 26 = .ok (.istore_n 1, 1) := by decide +kernel
theorem d_P_jobs_27 : decode b_P_jobs 27 = .ok (.iinc 2 1, 3) := by decide +kernel
theorem d_P_jobs_30 : decode b_P_jobs 30 = .ok (.goto (-26), 3) := by decide +kernel
theorem d_P_jobs_33 : decode b_P_jobs 33 = .ok (.iload_n 1, 1) := by decide +kernel
theorem d_P_jobs_34 : decode b_P_jobs 34 = .ok (.ireturn, 1) := by decide +kernel
theorem d_P_release_0 : decode b_P_release 0 = .ok (.aload_n 0, 1) := by decide +kernel
theorem d_P_release_1 : decode b_P_release 1 = .ok (.iload_n 1, 1) := by decide +kernel
theorem d_P_release_2 : decode b_P_release 2 = .ok (.invokevirtual 78, 3) := by decide +kernel
theorem d_P_release_5 : decode b_P_release 5 = .ok (.ifCond .eq 12, 3) := by decide +kernel
theorem d_P_release_8 : decode b_P_release 8 = .ok (.aload_n 0, 1) := by decide +kernel
theorem d_P_release_9 : decode b_P_release 9 = .ok (.getfield 13, 3) := by decide +kernel
theorem d_P_release_12 : decode b_P_release 12 = .ok (.iload_n 1, 1) := by decide +kernel
theorem d_P_release_13 : decode b_P_release 13 = .ok (.baload, 1) := by decide +kernel
theorem d_P_release_14 : decode b_P_release 14 = .ok (.goto 4, 3) := by decide +kernel
theorem d_P_release_17 : decode b_P_release 17 = .ok (.iconst (-1), 1) := by decide +kernel
theorem d_P_release_18 : decode b_P_release 18 = .ok (.ireturn, 1) := by decide +kernel
theorem d_P_deadline_0 : decode b_P_deadline 0 = .ok (.aload_n 0, 1) := by decide +kernel
theorem d_P_deadline_1 : decode b_P_deadline 1 = .ok (.iload_n 1, 1) := by decide +kernel
theorem d_P_deadline_2 : decode b_P_deadline 2 = .ok (.invokevirtual 78, 3) := by decide +kernel
theorem d_P_deadline_5 : decode b_P_deadline 5 = .ok (.ifCond .eq 12, 3) := by decide +kernel
theorem d_P_deadline_8 : decode b_P_deadline 8 = .ok (.aload_n 0, 1) := by decide +kernel
theorem d_P_deadline_9 : decode b_P_deadline 9 = .ok (.getfield 17, 3) := by decide +kernel
theorem d_P_deadline_12 : decode b_P_deadline 12 = .ok (.iload_n 1, 1) := by decide +kernel
theorem d_P_deadline_13 : decode b_P_deadline 13 = .ok (.baload, 1) := by decide +kernel
theorem d_P_deadline_14 : decode b_P_deadline 14 = .ok (.goto 4, 3) := by decide +kernel
theorem d_P_deadline_17 : decode b_P_deadline 17 = .ok (.iconst (-1), 1) := by decide +kernel
theorem d_P_deadline_18 : decode b_P_deadline 18 = .ok (.ireturn, 1) := by decide +kernel
theorem d_P_earliestEnd_0 : decode b_P_earliestEnd 0 = .ok (.aload_n 0, 1) := by decide +kernel
theorem d_P_earliestEnd_1 : decode b_P_earliestEnd 1 = .ok (.invokevirtual 67, 3) := by decide +kernel
theorem d_P_earliestEnd_4 : decode b_P_earliestEnd 4 = .ok (.aload_n 0, 1) := by decide +kernel
theorem d_P_earliestEnd_5 : decode b_P_earliestEnd 5 = .ok (.invokevirtual 74, 3) := by decide +kernel
theorem d_P_earliestEnd_8 : decode b_P_earliestEnd 8 = .ok (.pop, 1) := by decide +kernel
theorem d_P_earliestEnd_9 : decode b_P_earliestEnd 9 = .ok (.aload_n 0, 1) := by decide +kernel
theorem d_P_earliestEnd_10 : decode b_P_earliestEnd 10 = .ok (.getfield 86, 3) := by decide +kernel
theorem d_P_earliestEnd_13 : decode b_P_earliestEnd 13 = .ok (.ireturn, 1) := by decide +kernel
theorem d_P_latestBegin_0 : decode b_P_latestBegin 0 = .ok (.iconst 0, 1) := by decide +kernel
theorem d_P_latestBegin_1 : decode b_P_latestBegin 1 = .ok (.istore_n 1, 1) := by decide +kernel
theorem d_P_latestBegin_2 : decode b_P_latestBegin 2 = .ok (.bipush 40, 2) := by decide +kernel
theorem d_P_latestBegin_4 : decode b_P_latestBegin 4 = .ok (.istore_n 2, 1) := by decide +kernel
theorem d_P_latestBegin_5 : decode b_P_latestBegin 5 = .ok (.iconst 0, 1) := by decide +kernel
theorem d_P_latestBegin_6 : decode b_P_latestBegin 6 = .ok (.istore_n 3, 1) := by decide +kernel
theorem d_P_latestBegin_7 : decode b_P_latestBegin 7 = .ok (.iload_n 3, 1) := by decide +kernel
theorem d_P_latestBegin_8 : decode b_P_latestBegin 8 = .ok (.bipush 8, 2) := by decide +kernel
theorem d_P_latestBegin_10 : decode b_P_latestBegin 10 = .ok (.if_icmp .ge 51, 3) := by decide +kernel
theorem d_P_latestBegin_13 : decode b_P_latestBegin 13 = .ok (.iload_n 1, 1) := by decide +kernel
theorem d_P_latestBegin_14 : decode b_P_latestBegin 14 = .ok (.iload_n 2, 1) := by decide +kernel
theorem d_P_latestBegin_15 : decode b_P_latestBegin 15 = .ok (.if_icmp .ge 46, 3) := by decide +kernel
theorem d_P_latestBegin_18 : decode b_P_latestBegin 18 = .ok (.iload_n 1, 1) := by decide +kernel
theorem d_P_latestBegin_19 : decode b_P_latestBegin 19 = .ok (.iload_n 2, 1) := by decide +kernel
theorem d_P_latestBegin_20 : decode b_P_latestBegin 20 = .ok (.iadd, 1) := by decide +kernel
theorem d_P_latestBegin_21 : decode b_P_latestBegin 21 = .ok (.iconst 1, 1) := by decide +kernel
theorem d_P_latestBegin_22 : decode b_P_latestBegin 22 = .ok (.iadd, 1) := by decide +kernel
theorem d_P_latestBegin_23 : decode b_P_latestBegin 23 = .ok (.iconst 1, 1) := by decide +kernel
theorem d_P_latestBegin_24 : decode b_P_latestBegin 24 = .ok (.ishr, 1) := by decide +kernel
theorem d_P_latestBegin_25 : decode b_P_latestBegin 25 = .ok (.istore 4, 2) := by decide +kernel
theorem d_P_latestBegin_27 : decode b_P_latestBegin 27 = .ok (.aload_n 0, 1) := by decide +kernel
theorem d_P_latestBegin_28 : decode b_P_latestBegin 28 = .ok (.invokevirtual 67, 3) := by decide +kernel
theorem d_P_latestBegin_31 : decode b_P_latestBegin 31 = .ok (.aload_n 0, 1) := by decide +kernel
theorem d_P_latestBegin_32 : decode b_P_latestBegin 32 = .ok (.iload 4, 2) := by decide +kernel
theorem d_P_latestBegin_34 : decode b_P_latestBegin 34 = .ok (.invokevirtual 89, 3) := by decide +kernel
theorem d_P_latestBegin_37 : decode b_P_latestBegin 37 = .ok (.aload_n 0, 1) := by decide +kernel
theorem d_P_latestBegin_38 : decode b_P_latestBegin 38 = .ok (.invokevirtual 74, 3) := by decide +kernel
theorem d_P_latestBegin_41 : decode b_P_latestBegin 41 = .ok (.ifCond .eq 9, 3) := by decide +kernel
theorem d_P_latestBegin_44 : decode b_P_latestBegin 44 = .ok (.iload 4, 2) := by decide +kernel
theorem d_P_latestBegin_46 : decode b_P_latestBegin 46 = .ok (.istore_n 1, 1) := by decide +kernel
theorem d_P_latestBegin_47 : decode b_P_latestBegin 47 = .ok (.goto 8, 3) := by decide +kernel
theorem d_P_latestBegin_50 : decode b_P_latestBegin 50 = .ok (.iload 4, 2) := by decide +kernel
theorem d_P_latestBegin_52 : decode b_P_latestBegin 52 = .ok (.iconst 1, 1) := by decide +kernel
theorem d_P_latestBegin_53 : decode b_P_latestBegin 53 = .ok (.isub, 1) := by decide +kernel
theorem d_P_latestBegin_54 : decode b_P_latestBegin 54 = .ok (.istore_n 2, 1) := by decide +kernel
theorem d_P_latestBegin_55 : decode b_P_latestBegin 55 = .ok (.iinc 3 1, 3) := by decide +kernel
theorem d_P_latestBegin_58 : decode b_P_latestBegin 58 = .ok (.goto (-51), 3) := by decide +kernel
theorem d_P_latestBegin_61 : decode b_P_latestBegin 61 = .ok (.iload_n 1, 1) := by decide +kernel
theorem d_P_latestBegin_62 : decode b_P_latestBegin 62 = .ok (.ireturn, 1) := by decide +kernel
theorem d_P_earliestStart_0 : decode b_P_earliestStart 0 = .ok (.aload_n 0, 1) := by decide +kernel
theorem d_P_earliestStart_1 : decode b_P_earliestStart 1 = .ok (.iload_n 1, 1) := by decide +kernel
theorem d_P_earliestStart_2 : decode b_P_earliestStart 2 = .ok (.invokevirtual 78, 3) := by decide +kernel
theorem d_P_earliestStart_5 : decode b_P_earliestStart 5 = .ok (.ifCond .ne 5, 3) := by decide +kernel
theorem d_P_earliestStart_8 : decode b_P_earliestStart 8 = .ok (.iconst (-1), 1) := by decide +kernel
theorem d_P_earliestStart_9 : decode b_P_earliestStart 9 = .ok (.ireturn, 1) := by decide +kernel
theorem d_P_earliestStart_10 : decode b_P_earliestStart 10 = .ok (.aload_n 0, 1) := by decide +kernel
theorem d_P_earliestStart_11 : decode b_P_earliestStart 11 = .ok (.iload_n 1, 1) := by decide +kernel
theorem d_P_earliestStart_12 : decode b_P_earliestStart 12 = .ok (.iconst 0, 1) := by decide +kernel
theorem d_P_earliestStart_13 : decode b_P_earliestStart 13 = .ok (.invokevirtual 92, 3) := by decide +kernel
theorem d_P_earliestStart_16 : decode b_P_earliestStart 16 = .ok (.ireturn, 1) := by decide +kernel
theorem d_P_latestStart_0 : decode b_P_latestStart 0 = .ok (.aload_n 0, 1) := by decide +kernel
theorem d_P_latestStart_1 : decode b_P_latestStart 1 = .ok (.iload_n 1, 1) := by decide +kernel
theorem d_P_latestStart_2 : decode b_P_latestStart 2 = .ok (.invokevirtual 78, 3) := by decide +kernel
theorem d_P_latestStart_5 : decode b_P_latestStart 5 = .ok (.ifCond .ne 5, 3) := by decide +kernel
theorem d_P_latestStart_8 : decode b_P_latestStart 8 = .ok (.iconst (-1), 1) := by decide +kernel
theorem d_P_latestStart_9 : decode b_P_latestStart 9 = .ok (.ireturn, 1) := by decide +kernel
theorem d_P_latestStart_10 : decode b_P_latestStart 10 = .ok (.aload_n 0, 1) := by decide +kernel
theorem d_P_latestStart_11 : decode b_P_latestStart 11 = .ok (.getfield 13, 3) := by decide +kernel
theorem d_P_latestStart_14 : decode b_P_latestStart 14 = .ok (.iload_n 1, 1) := by decide +kernel
theorem d_P_latestStart_15 : decode b_P_latestStart 15 = .ok (.baload, 1) := by decide +kernel
theorem d_P_latestStart_16 : decode b_P_latestStart 16 = .ok (.istore_n 2, 1) := by decide +kernel
theorem d_P_latestStart_17 : decode b_P_latestStart 17 = .ok (.aload_n 0, 1) := by decide +kernel
theorem d_P_latestStart_18 : decode b_P_latestStart 18 = .ok (.getfield 17, 3) := by decide +kernel
theorem d_P_latestStart_21 : decode b_P_latestStart 21 = .ok (.iload_n 1, 1) := by decide +kernel
theorem d_P_latestStart_22 : decode b_P_latestStart 22 = .ok (.baload, 1) := by decide +kernel
theorem d_P_latestStart_23 : decode b_P_latestStart 23 = .ok (.aload_n 0, 1) := by decide +kernel
theorem d_P_latestStart_24 : decode b_P_latestStart 24 = .ok (.getfield 44, 3) := by decide +kernel
theorem d_P_latestStart_27 : decode b_P_latestStart 27 = .ok (.isub, 1) := by decide +kernel
theorem d_P_latestStart_28 : decode b_P_latestStart 28 = .ok (.istore_n 3, 1) := by decide +kernel
theorem d_P_latestStart_29 : decode b_P_latestStart 29 = .ok (.iconst 0, 1) := by decide +kernel
theorem d_P_latestStart_30 : decode b_P_latestStart 30 = .ok (.istore 4, 2) := by decide +kernel
theorem d_P_latestStart_32 : decode b_P_latestStart 32 = .ok (.iload 4, 2) := by decide +kernel
theorem d_P_latestStart_34 : decode b_P_latestStart 34 = .ok (.bipush 8, 2) := by decide +kernel
theorem d_P_latestStart_36 : decode b_P_latestStart 36 = .ok (.if_icmp .ge 58, 3) := by decide +kernel
theorem d_P_latestStart_39 : decode b_P_latestStart 39 = .ok (.iload_n 2, 1) := by decide +kernel
theorem d_P_latestStart_40 : decode b_P_latestStart 40 = .ok (.iload_n 3, 1) := by decide +kernel
theorem d_P_latestStart_41 : decode b_P_latestStart 41 = .ok (.if_icmp .ge 53, 3) := by decide +kernel
theorem d_P_latestStart_44 : decode b_P_latestStart 44 = .ok (.iload_n 2, 1) := by decide +kernel
theorem d_P_latestStart_45 : decode b_P_latestStart 45 = .ok (.iload_n 3, 1) := by decide +kernel
theorem d_P_latestStart_46 : decode b_P_latestStart 46 = .ok (.iadd, 1) := by decide +kernel
theorem d_P_latestStart_47 : decode b_P_latestStart 47 = .ok (.iconst 1, 1) := by decide +kernel
theorem d_P_latestStart_48 : decode b_P_latestStart 48 = .ok (.iadd, 1) := by decide +kernel
theorem d_P_latestStart_49 : decode b_P_latestStart 49 = .ok (.iconst 1, 1) := by decide +kernel
theorem d_P_latestStart_50 : decode b_P_latestStart 50 = .ok (.ishr, 1) := by decide +kernel
theorem d_P_latestStart_51 : decode b_P_latestStart 51 = .ok (.istore 5, 2) := by decide +kernel
theorem d_P_latestStart_53 : decode b_P_latestStart 53 = .ok (.aload_n 0, 1) := by decide +kernel
theorem d_P_latestStart_54 : decode b_P_latestStart 54 = .ok (.iload_n 1, 1) := by decide +kernel
theorem d_P_latestStart_55 : decode b_P_latestStart 55 = .ok (.invokevirtual 82, 3) := by decide +kernel
theorem d_P_latestStart_58 : decode b_P_latestStart 58 = .ok (.aload_n 0, 1) := by decide +kernel
theorem d_P_latestStart_59 : decode b_P_latestStart 59 = .ok (.iload 5, 2) := by decide +kernel
theorem d_P_latestStart_61 : decode b_P_latestStart 61 = .ok (.aload_n 0, 1) := by decide +kernel
theorem d_P_latestStart_62 : decode b_P_latestStart 62 = .ok (.getfield 17, 3) := by decide +kernel
theorem d_P_latestStart_65 : decode b_P_latestStart 65 = .ok (.iload_n 1, 1) := by decide +kernel
theorem d_P_latestStart_66 : decode b_P_latestStart 66 = .ok (.baload, 1) := by decide +kernel
theorem d_P_latestStart_67 : decode b_P_latestStart 67 = .ok (.invokevirtual 70, 3) := by decide +kernel
theorem d_P_latestStart_70 : decode b_P_latestStart 70 = .ok (.aload_n 0, 1) := by decide +kernel
theorem d_P_latestStart_71 : decode b_P_latestStart 71 = .ok (.invokevirtual 74, 3) := by decide +kernel
theorem d_P_latestStart_74 : decode b_P_latestStart 74 = .ok (.ifCond .eq 9, 3) := by decide +kernel
theorem d_P_latestStart_77 : decode b_P_latestStart 77 = .ok (.iload 5, 2) := by decide +kernel
theorem d_P_latestStart_79 : decode b_P_latestStart 79 = .ok (.istore_n 2, 1) := by decide +kernel
theorem d_P_latestStart_80 : decode b_P_latestStart 80 = .ok (.goto 8, 3) := by decide +kernel
theorem d_P_latestStart_83 : decode b_P_latestStart 83 = .ok (.iload 5, 2) := by decide +kernel
theorem d_P_latestStart_85 : decode b_P_latestStart 85 = .ok (.iconst 1, 1) := by decide +kernel
theorem d_P_latestStart_86 : decode b_P_latestStart 86 = .ok (.isub, 1) := by decide +kernel
theorem d_P_latestStart_87 : decode b_P_latestStart 87 = .ok (.istore_n 3, 1) := by decide +kernel
theorem d_P_latestStart_88 : decode b_P_latestStart 88 = .ok (.iinc 4 1, 3) := by decide +kernel
theorem d_P_latestStart_91 : decode b_P_latestStart 91 = .ok (.goto (-59), 3) := by decide +kernel
theorem d_P_latestStart_94 : decode b_P_latestStart 94 = .ok (.iload_n 2, 1) := by decide +kernel
theorem d_P_latestStart_95 : decode b_P_latestStart 95 = .ok (.ireturn, 1) := by decide +kernel
theorem d_P_open_0 : decode b_P_open 0 = .ok (.iload_n 1, 1) := by decide +kernel
theorem d_P_open_1 : decode b_P_open 1 = .ok (.ifCond .lt 14, 3) := by decide +kernel
theorem d_P_open_4 : decode b_P_open 4 = .ok (.iload_n 1, 1) := by decide +kernel
theorem d_P_open_5 : decode b_P_open 5 = .ok (.bipush 40, 2) := by decide +kernel
theorem d_P_open_7 : decode b_P_open 7 = .ok (.aload_n 0, 1) := by decide +kernel
theorem d_P_open_8 : decode b_P_open 8 = .ok (.getfield 44, 3) := by decide +kernel
theorem d_P_open_11 : decode b_P_open 11 = .ok (.isub, 1) := by decide +kernel
theorem d_P_open_12 : decode b_P_open 12 = .ok (.if_icmp .le 5, 3) := by decide +kernel
theorem d_P_open_15 : decode b_P_open 15 = .ok (.iconst 0, 1) := by decide +kernel
theorem d_P_open_16 : decode b_P_open 16 = .ok (.ireturn, 1) := by decide +kernel
theorem d_P_open_17 : decode b_P_open 17 = .ok (.aload_n 0, 1) := by decide +kernel
theorem d_P_open_18 : decode b_P_open 18 = .ok (.invokevirtual 67, 3) := by decide +kernel
theorem d_P_open_21 : decode b_P_open 21 = .ok (.aload_n 0, 1) := by decide +kernel
theorem d_P_open_22 : decode b_P_open 22 = .ok (.iload_n 1, 1) := by decide +kernel
theorem d_P_open_23 : decode b_P_open 23 = .ok (.iload_n 1, 1) := by decide +kernel
theorem d_P_open_24 : decode b_P_open 24 = .ok (.aload_n 0, 1) := by decide +kernel
theorem d_P_open_25 : decode b_P_open 25 = .ok (.getfield 44, 3) := by decide +kernel
theorem d_P_open_28 : decode b_P_open 28 = .ok (.iadd, 1) := by decide +kernel
theorem d_P_open_29 : decode b_P_open 29 = .ok (.invokevirtual 70, 3) := by decide +kernel
theorem d_P_open_32 : decode b_P_open 32 = .ok (.aload_n 0, 1) := by decide +kernel
theorem d_P_open_33 : decode b_P_open 33 = .ok (.invokevirtual 74, 3) := by decide +kernel
theorem d_P_open_36 : decode b_P_open 36 = .ok (.ireturn, 1) := by decide +kernel
theorem d_P_plannedStart_0 : decode b_P_plannedStart 0 = .ok (.aload_n 0, 1) := by decide +kernel
theorem d_P_plannedStart_1 : decode b_P_plannedStart 1 = .ok (.iload_n 1, 1) := by decide +kernel
theorem d_P_plannedStart_2 : decode b_P_plannedStart 2 = .ok (.invokevirtual 78, 3) := by decide +kernel
theorem d_P_plannedStart_5 : decode b_P_plannedStart 5 = .ok (.ifCond .ne 5, 3) := by decide +kernel
theorem d_P_plannedStart_8 : decode b_P_plannedStart 8 = .ok (.iconst (-1), 1) := by decide +kernel
theorem d_P_plannedStart_9 : decode b_P_plannedStart 9 = .ok (.ireturn, 1) := by decide +kernel
theorem d_P_plannedStart_10 : decode b_P_plannedStart 10 = .ok (.aload_n 0, 1) := by decide +kernel
theorem d_P_plannedStart_11 : decode b_P_plannedStart 11 = .ok (.getfield 55, 3) := by decide +kernel
theorem d_P_plannedStart_14 : decode b_P_plannedStart 14 = .ok (.ifCond .ne 7, 3) := by decide +kernel
theorem d_P_plannedStart_17 : decode b_P_plannedStart 17 = .ok (.aload_n 0, 1) := by decide +kernel
theorem d_P_plannedStart_18 : decode b_P_plannedStart 18 = .ok (.invokevirtual 95, 3) := by decide +kernel
theorem d_P_plannedStart_21 : decode b_P_plannedStart 21 = .ok (.aload_n 0, 1) := by decide +kernel
theorem d_P_plannedStart_22 : decode b_P_plannedStart 22 = .ok (.getfield 41, 3) := by decide +kernel
theorem d_P_plannedStart_25 : decode b_P_plannedStart 25 = .ok (.iload_n 1, 1) := by decide +kernel
theorem d_P_plannedStart_26 : decode b_P_plannedStart 26 = .ok (.baload, 1) := by decide +kernel
theorem d_P_plannedStart_27 : decode b_P_plannedStart 27 = .ok (.ireturn, 1) := by decide +kernel
theorem d_P_makePlan_0 : decode b_P_makePlan 0 = .ok (.aload_n 0, 1) := by decide +kernel
theorem d_P_makePlan_1 : decode b_P_makePlan 1 = .ok (.iconst 1, 1) := by decide +kernel
theorem d_P_makePlan_2 : decode b_P_makePlan 2 = .ok (.putfield 55, 3) := by decide +kernel
theorem d_P_makePlan_5 : decode b_P_makePlan 5 = .ok (.iconst 0, 1) := by decide +kernel
theorem d_P_makePlan_6 : decode b_P_makePlan 6 = .ok (.istore_n 1, 1) := by decide +kernel
theorem d_P_makePlan_7 : decode b_P_makePlan 7 = .ok (.iload_n 1, 1) := by decide +kernel
theorem d_P_makePlan_8 : decode b_P_makePlan 8 = .ok (.aload_n 0, 1) := by decide +kernel
theorem d_P_makePlan_9 : decode b_P_makePlan 9 = .ok (.getfield 48, 3) := by decide +kernel
theorem d_P_makePlan_12 : decode b_P_makePlan 12 = .ok (.if_icmp .ge 31, 3) := by decide +kernel
theorem d_P_makePlan_15 : decode b_P_makePlan 15 = .ok (.aload_n 0, 1) := by decide +kernel
theorem d_P_makePlan_16 : decode b_P_makePlan 16 = .ok (.getfield 7, 3) := by decide +kernel
theorem d_P_makePlan_19 : decode b_P_makePlan 19 = .ok (.iload_n 1, 1) := by decide +kernel
theorem d_P_makePlan_20 : decode b_P_makePlan 20 = .ok (.baload, 1) := by decide +kernel
theorem d_P_makePlan_21 : decode b_P_makePlan 21 = .ok (.ifCond .eq 16, 3) := by decide +kernel
theorem d_P_makePlan_24 : decode b_P_makePlan 24 = .ok (.aload_n 0, 1) := by decide +kernel
theorem d_P_makePlan_25 : decode b_P_makePlan 25 = .ok (.getfield 41, 3) := by decide +kernel
theorem d_P_makePlan_28 : decode b_P_makePlan 28 = .ok (.iload_n 1, 1) := by decide +kernel
theorem d_P_makePlan_29 : decode b_P_makePlan 29 = .ok (.aload_n 0, 1) := by decide +kernel
theorem d_P_makePlan_30 : decode b_P_makePlan 30 = .ok (.iload_n 1, 1) := by decide +kernel
theorem d_P_makePlan_31 : decode b_P_makePlan 31 = .ok (.iload_n 1, 1) := by decide +kernel
theorem d_P_makePlan_32 : decode b_P_makePlan 32 = .ok (.invokevirtual 92, 3) := by decide +kernel
theorem d_P_makePlan_35 : decode b_P_makePlan 35 = .ok (.i2b, 1) := by decide +kernel
theorem d_P_makePlan_36 : decode b_P_makePlan 36 = .ok (.bastore, 1) := by decide +kernel
theorem d_P_makePlan_37 : decode b_P_makePlan 37 = .ok (.iinc 1 1, 3) := by decide +kernel
theorem d_P_makePlan_40 : decode b_P_makePlan 40 = .ok (.goto (-33), 3) := by decide +kernel
theorem d_P_makePlan_43 : decode b_P_makePlan 43 = .ok (.return_, 1) := by decide +kernel
end
section
-- DECODE ROWS: printed by gen/gen.py
theorem d_P_earliestOf_0 : decode b_P_earliestOf 0 = .ok (.aload_n 0, 1) := by decide +kernel
theorem d_P_earliestOf_1 : decode b_P_earliestOf 1 = .ok (.getfield 13, 3) := by decide +kernel
theorem d_P_earliestOf_4 : decode b_P_earliestOf 4 = .ok (.iload_n 1, 1) := by decide +kernel
theorem d_P_earliestOf_5 : decode b_P_earliestOf 5 = .ok (.baload, 1) := by decide +kernel
theorem d_P_earliestOf_6 : decode b_P_earliestOf 6 = .ok (.istore_n 3, 1) := by decide +kernel
theorem d_P_earliestOf_7 : decode b_P_earliestOf 7 = .ok (.aload_n 0, 1) := by decide +kernel
theorem d_P_earliestOf_8 : decode b_P_earliestOf 8 = .ok (.getfield 17, 3) := by decide +kernel
theorem d_P_earliestOf_11 : decode b_P_earliestOf 11 = .ok (.iload_n 1, 1) := by decide +kernel
theorem d_P_earliestOf_12 : decode b_P_earliestOf 12 = .ok (.baload, 1) := by decide +kernel
theorem d_P_earliestOf_13 : decode b_P_earliestOf 13 = .ok (.aload_n 0, 1) := by decide +kernel
theorem d_P_earliestOf_14 : decode b_P_earliestOf 14 = .ok (.getfield 44, 3) := by decide +kernel
theorem d_P_earliestOf_17 : decode b_P_earliestOf 17 = .ok (.isub, 1) := by decide +kernel
theorem d_P_earliestOf_18 : decode b_P_earliestOf 18 = .ok (.istore 4, 2) := by decide +kernel
theorem d_P_earliestOf_20 : decode b_P_earliestOf 20 = .ok (.iconst 0, 1) := by decide +kernel
theorem d_P_earliestOf_21 : decode b_P_earliestOf 21 = .ok (.istore 5, 2) := by decide +kernel
theorem d_P_earliestOf_23 : decode b_P_earliestOf 23 = .ok (.iload 5, 2) := by decide +kernel
theorem d_P_earliestOf_25 : decode b_P_earliestOf 25 = .ok (.bipush 8, 2) := by decide +kernel
theorem d_P_earliestOf_27 : decode b_P_earliestOf 27 = .ok (.if_icmp .ge 65, 3) := by decide +kernel
theorem d_P_earliestOf_30 : decode b_P_earliestOf 30 = .ok (.iload_n 3, 1) := by decide +kernel
theorem d_P_earliestOf_31 : decode b_P_earliestOf 31 = .ok (.iload 4, 2) := by decide +kernel
theorem d_P_earliestOf_33 : decode b_P_earliestOf 33 = .ok (.if_icmp .ge 59, 3) := by decide +kernel
theorem d_P_earliestOf_36 : decode b_P_earliestOf 36 = .ok (.iload_n 3, 1) := by decide +kernel
theorem d_P_earliestOf_37 : decode b_P_earliestOf 37 = .ok (.iload 4, 2) := by decide +kernel
theorem d_P_earliestOf_39 : decode b_P_earliestOf 39 = .ok (.iadd, 1) := by decide +kernel
theorem d_P_earliestOf_40 : decode b_P_earliestOf 40 = .ok (.iconst 1, 1) := by decide +kernel
theorem d_P_earliestOf_41 : decode b_P_earliestOf 41 = .ok (.ishr, 1) := by decide +kernel
theorem d_P_earliestOf_42 : decode b_P_earliestOf 42 = .ok (.istore 6, 2) := by decide +kernel
theorem d_P_earliestOf_44 : decode b_P_earliestOf 44 = .ok (.aload_n 0, 1) := by decide +kernel
theorem d_P_earliestOf_45 : decode b_P_earliestOf 45 = .ok (.iload_n 1, 1) := by decide +kernel
theorem d_P_earliestOf_46 : decode b_P_earliestOf 46 = .ok (.iload_n 2, 1) := by decide +kernel
theorem d_P_earliestOf_47 : decode b_P_earliestOf 47 = .ok (.invokevirtual 98, 3) := by decide +kernel
theorem d_P_earliestOf_50 : decode b_P_earliestOf 50 = .ok (.aload_n 0, 1) := by decide +kernel
theorem d_P_earliestOf_51 : decode b_P_earliestOf 51 = .ok (.aload_n 0, 1) := by decide +kernel
theorem d_P_earliestOf_52 : decode b_P_earliestOf 52 = .ok (.getfield 13, 3) := by decide +kernel
theorem d_P_earliestOf_55 : decode b_P_earliestOf 55 = .ok (.iload_n 1, 1) := by decide +kernel
theorem d_P_earliestOf_56 : decode b_P_earliestOf 56 = .ok (.baload, 1) := by decide +kernel
theorem d_P_earliestOf_57 : decode b_P_earliestOf 57 = .ok (.iload 6, 2) := by decide +kernel
theorem d_P_earliestOf_59 : decode b_P_earliestOf 59 = .ok (.aload_n 0, 1) := by decide +kernel
theorem d_P_earliestOf_60 : decode b_P_earliestOf 60 = .ok (.getfield 44, 3) := by decide +kernel
theorem d_P_earliestOf_63 : decode b_P_earliestOf 63 = .ok (.iadd, 1) := by decide +kernel
theorem d_P_earliestOf_64 : decode b_P_earliestOf 64 = .ok (.invokevirtual 70, 3) := by decide +kernel
theorem d_P_earliestOf_67 : decode b_P_earliestOf 67 = .ok (.aload_n 0, 1) := by decide +kernel
theorem d_P_earliestOf_68 : decode b_P_earliestOf 68 = .ok (.invokevirtual 74, 3) := by decide +kernel
theorem d_P_earliestOf_71 : decode b_P_earliestOf 71 = .ok (.ifCond .eq 10, 3) := by decide +kernel
theorem d_P_earliestOf_74 : decode b_P_earliestOf 74 = .ok (.iload 6, 2) := by decide +kernel
theorem d_P_earliestOf_76 : decode b_P_earliestOf 76 = .ok (.istore 4, 2) := by decide +kernel
theorem d_P_earliestOf_78 : decode b_P_earliestOf 78 = .ok (.goto 8, 3) := by decide +kernel
theorem d_P_earliestOf_81 : decode b_P_earliestOf 81 = .ok (.iload 6, 2) := by decide +kernel
theorem d_P_earliestOf_83 : decode b_P_earliestOf 83 = .ok (.iconst 1, 1) := by decide +kernel
theorem d_P_earliestOf_84 : decode b_P_earliestOf 84 = .ok (.iadd, 1) := by decide +kernel
theorem d_P_earliestOf_85 : decode b_P_earliestOf 85 = .ok (.istore_n 3, 1) := by decide +kernel
theorem d_P_earliestOf_86 : decode b_P_earliestOf 86 = .ok (.iinc 5 1, 3) := by decide +kernel
theorem d_P_earliestOf_89 : decode b_P_earliestOf 89 = .ok (.goto (-66), 3) := by decide +kernel
theorem d_P_earliestOf_92 : decode b_P_earliestOf 92 = .ok (.iload_n 3, 1) := by decide +kernel
theorem d_P_earliestOf_93 : decode b_P_earliestOf 93 = .ok (.ireturn, 1) := by decide +kernel
theorem d_P_askAll_0 : decode b_P_askAll 0 = .ok (.aload_n 0, 1) := by decide +kernel
theorem d_P_askAll_1 : decode b_P_askAll 1 = .ok (.iconst (-1), 1) := by decide +kernel
theorem d_P_askAll_2 : decode b_P_askAll 2 = .ok (.invokevirtual 82, 3) := by decide +kernel
theorem d_P_askAll_5 : decode b_P_askAll 5 = .ok (.return_, 1) := by decide +kernel
theorem d_P_askAllBut_0 : decode b_P_askAllBut 0 = .ok (.aload_n 0, 1) := by decide +kernel
theorem d_P_askAllBut_1 : decode b_P_askAllBut 1 = .ok (.iload_n 1, 1) := by decide +kernel
theorem d_P_askAllBut_2 : decode b_P_askAllBut 2 = .ok (.iconst 0, 1) := by decide +kernel
theorem d_P_askAllBut_3 : decode b_P_askAllBut 3 = .ok (.invokevirtual 98, 3) := by decide +kernel
theorem d_P_askAllBut_6 : decode b_P_askAllBut 6 = .ok (.return_, 1) := by decide +kernel
theorem d_P_askPinned_0 : decode b_P_askPinned 0 = .ok (.aload_n 0, 1) := by decide +kernel
theorem d_P_askPinned_1 : decode b_P_askPinned 1 = .ok (.iconst 0, 1) := by decide +kernel
theorem d_P_askPinned_2 : decode b_P_askPinned 2 = .ok (.putfield 101, 3) := by decide +kernel
theorem d_P_askPinned_5 : decode b_P_askPinned 5 = .ok (.iconst 0, 1) := by decide +kernel
theorem d_P_askPinned_6 : decode b_P_askPinned 6 = .ok (.istore_n 3, 1) := by decide +kernel
theorem d_P_askPinned_7 : decode b_P_askPinned 7 = .ok (.iload_n 3, 1) := by decide +kernel
theorem d_P_askPinned_8 : decode b_P_askPinned 8 = .ok (.aload_n 0, 1) := by decide +kernel
theorem d_P_askPinned_9 : decode b_P_askPinned 9 = .ok (.getfield 48, 3) := by decide +kernel
theorem d_P_askPinned_12 : decode b_P_askPinned 12 = .ok (.if_icmp .ge 92, 3) := by decide +kernel
theorem d_P_askPinned_15 : decode b_P_askPinned 15 = .ok (.aload_n 0, 1) := by decide +kernel
theorem d_P_askPinned_16 : decode b_P_askPinned 16 = .ok (.getfield 7, 3) := by decide +kernel
theorem d_P_askPinned_19 : decode b_P_askPinned 19 = .ok (.iload_n 3, 1) := by decide +kernel
theorem d_P_askPinned_20 : decode b_P_askPinned 20 = .ok (.baload, 1) := by decide +kernel
theorem d_P_askPinned_21 : decode b_P_askPinned 21 = .ok (.ifCond .eq 77, 3) := by decide +kernel
theorem d_P_askPinned_24 : decode b_P_askPinned 24 = .ok (.iload_n 3, 1) := by decide +kernel
theorem d_P_askPinned_25 : decode b_P_askPinned 25 = .ok (.iload_n 1, 1) := by decide +kernel
theorem d_P_askPinned_26 : decode b_P_askPinned 26 = .ok (.if_icmp .eq 72, 3) := by decide +kernel
theorem d_P_askPinned_29 : decode b_P_askPinned 29 = .ok (.iload_n 3, 1) := by decide +kernel
theorem d_P_askPinned_30 : decode b_P_askPinned 30 = .ok (.iload_n 2, 1) := by decide +kernel
theorem d_P_askPinned_31 : decode b_P_askPinned 31 = .ok (.if_icmp .ge 7, 3) := by decide +kernel
theorem d_P_askPinned_34 : decode b_P_askPinned 34 = .ok (.iconst 1, 1) := by decide +kernel
theorem d_P_askPinned_35 : decode b_P_askPinned 35 = .ok (.goto 4, 3) := by decide +kernel
theorem d_P_askPinned_38 : decode b_P_askPinned 38 = .ok (.iconst 0, 1) := by decide +kernel
theorem d_P_askPinned_39 : decode b_P_askPinned 39 = .ok (.istore 4, 2) := by decide +kernel
theorem d_P_askPinned_41 : decode b_P_askPinned 41 = .ok (.iload 4, 2) := by decide +kernel
theorem d_P_askPinned_43 : decode b_P_askPinned 43 = .ok (.ifCond .eq 12, 3) := by decide +kernel
theorem d_P_askPinned_46 : decode b_P_askPinned 46 = .ok (.aload_n 0, 1) := by decide +kernel
theorem d_P_askPinned_47 : decode b_P_askPinned 47 = .ok (.getfield 41, 3) := by decide +kernel
theorem d_P_askPinned_50 : decode b_P_askPinned 50 = .ok (.iload_n 3, 1) := by decide +kernel
theorem d_P_askPinned_51 : decode b_P_askPinned 51 = .ok (.baload, 1) := by decide +kernel
theorem d_P_askPinned_52 : decode b_P_askPinned 52 = .ok (.goto 9, 3) := by decide +kernel
theorem d_P_askPinned_55 : decode b_P_askPinned 55 = .ok (.aload_n 0, 1) := by decide +kernel
theorem d_P_askPinned_56 : decode b_P_askPinned 56 = .ok (.getfield 13, 3) := by decide +kernel
theorem d_P_askPinned_59 : decode b_P_askPinned 59 = .ok (.iload_n 3, 1) := by decide +kernel
theorem d_P_askPinned_60 : decode b_P_askPinned 60 = .ok (.baload, 1) := by decide +kernel
theorem d_P_askPinned_61 : decode b_P_askPinned 61 = .ok (.istore 5, 2) := by decide +kernel
theorem d_P_askPinned_63 : decode b_P_askPinned 63 = .ok (.iload 4, 2) := by decide +kernel
theorem d_P_askPinned_65 : decode b_P_askPinned 65 = .ok (.ifCond .eq 17, 3) := by decide +kernel
theorem d_P_askPinned_68 : decode b_P_askPinned 68 = .ok (.aload_n 0, 1) := by decide +kernel
theorem d_P_askPinned_69 : decode b_P_askPinned 69 = .ok (.getfield 41, 3) := by decide +kernel
theorem d_P_askPinned_72 : decode b_P_askPinned 72 = .ok (.iload_n 3, 1) := by decide +kernel
theorem d_P_askPinned_73 : decode b_P_askPinned 73 = .ok (.baload, 1) := by decide +kernel
theorem d_P_askPinned_74 : decode b_P_askPinned 74 = .ok (.aload_n 0, 1) := by decide +kernel
theorem d_P_askPinned_75 : decode b_P_askPinned 75 = .ok (.getfield 44, 3) := by decide +kernel
theorem d_P_askPinned_78 : decode b_P_askPinned 78 = .ok (.iadd, 1) := by decide +kernel
theorem d_P_askPinned_79 : decode b_P_askPinned 79 = .ok (.goto 9, 3) := by decide +kernel
theorem d_P_askPinned_82 : decode b_P_askPinned 82 = .ok (.aload_n 0, 1) := by decide +kernel
theorem d_P_askPinned_83 : decode b_P_askPinned 83 = .ok (.getfield 17, 3) := by decide +kernel
theorem d_P_askPinned_86 : decode b_P_askPinned 86 = .ok (.iload_n 3, 1) := by decide +kernel
theorem d_P_askPinned_87 : decode b_P_askPinned 87 = .ok (.baload, 1) := by decide +kernel
theorem d_P_askPinned_88 : decode b_P_askPinned 88 = .ok (.istore 6, 2) := by decide +kernel
theorem d_P_askPinned_90 : decode b_P_askPinned 90 = .ok (.aload_n 0, 1) := by decide +kernel
theorem d_P_askPinned_91 : decode b_P_askPinned 91 = .ok (.iload 5, 2) := by decide +kernel
theorem d_P_askPinned_93 : decode b_P_askPinned 93 = .ok (.iload 6, 2) := by decide +kernel
theorem d_P_askPinned_95 : decode b_P_askPinned 95 = .ok (.invokevirtual 70, 3) := by decide +kernel
theorem d_P_askPinned_98 : decode b_P_askPinned 98 = .ok (.iinc 3 1, 3) := by decide +kernel
theorem d_P_askPinned_101 : decode b_P_askPinned 101 = .ok (.goto (-94), 3) := by decide +kernel
theorem d_P_askPinned_104 : decode b_P_askPinned 104 = .ok (.return_, 1) := by decide +kernel
theorem d_P_ask_0 : decode b_P_ask 0 = .ok (.aload_n 0, 1) := by decide +kernel
theorem d_P_ask_1 : decode b_P_ask 1 = .ok (.getfield 101, 3) := by decide +kernel
theorem d_P_ask_4 : decode b_P_ask 4 = .ok (.bipush 8, 2) := by decide +kernel
theorem d_P_ask_6 : decode b_P_ask 6 = .ok (.if_icmp .ge 35, 3) := by decide +kernel
theorem d_P_ask_9 : decode b_P_ask 9 = .ok (.aload_n 0, 1) := by decide +kernel
theorem d_P_ask_10 : decode b_P_ask 10 = .ok (.getfield 29, 3) := by decide +kernel
theorem d_P_ask_13 : decode b_P_ask 13 = .ok (.aload_n 0, 1) := by decide +kernel
theorem d_P_ask_14 : decode b_P_ask 14 = .ok (.getfield 101, 3) := by decide +kernel
theorem d_P_ask_17 : decode b_P_ask 17 = .ok (.iload_n 1, 1) := by decide +kernel
theorem d_P_ask_18 : decode b_P_ask 18 = .ok (.i2b, 1) := by decide +kernel
theorem d_P_ask_19 : decode b_P_ask 19 = .ok (.bastore, 1) := by decide +kernel
theorem d_P_ask_20 : decode b_P_ask 20 = .ok (.aload_n 0, 1) := by decide +kernel
theorem d_P_ask_21 : decode b_P_ask 21 = .ok (.getfield 32, 3) := by decide +kernel
theorem d_P_ask_24 : decode b_P_ask 24 = .ok (.aload_n 0, 1) := by decide +kernel
theorem d_P_ask_25 : decode b_P_ask 25 = .ok (.getfield 101, 3) := by decide +kernel
theorem d_P_ask_28 : decode b_P_ask 28 = .ok (.iload_n 2, 1) := by decide +kernel
theorem d_P_ask_29 : decode b_P_ask 29 = .ok (.i2b, 1) := by decide +kernel
theorem d_P_ask_30 : decode b_P_ask 30 = .ok (.bastore, 1) := by decide +kernel
theorem d_P_ask_31 : decode b_P_ask 31 = .ok (.aload_n 0, 1) := by decide +kernel
theorem d_P_ask_32 : decode b_P_ask 32 = .ok (.dup, 1) := by decide +kernel
theorem d_P_ask_33 : decode b_P_ask 33 = .ok (.getfield 101, 3) := by decide +kernel
theorem d_P_ask_36 : decode b_P_ask 36 = .ok (.iconst 1, 1) := by decide +kernel
theorem d_P_ask_37 : decode b_P_ask 37 = .ok (.iadd, 1) := by decide +kernel
theorem d_P_ask_38 : decode b_P_ask 38 = .ok (.putfield 101, 3) := by decide +kernel
theorem d_P_ask_41 : decode b_P_ask 41 = .ok (.return_, 1) := by decide +kernel
theorem d_P_raise_0 : decode b_P_raise 0 = .ok (.iconst 0, 1) := by decide +kernel
theorem d_P_raise_1 : decode b_P_raise 1 = .ok (.istore_n 2, 1) := by decide +kernel
theorem d_P_raise_2 : decode b_P_raise 2 = .ok (.iload_n 2, 1) := by decide +kernel
theorem d_P_raise_3 : decode b_P_raise 3 = .ok (.aload_n 0, 1) := by decide +kernel
theorem d_P_raise_4 : decode b_P_raise 4 = .ok (.getfield 101, 3) := by decide +kernel
theorem d_P_raise_7 : decode b_P_raise 7 = .ok (.if_icmp .ge 27, 3) := by decide +kernel
theorem d_P_raise_10 : decode b_P_raise 10 = .ok (.aload_n 0, 1) := by decide +kernel
theorem d_P_raise_11 : decode b_P_raise 11 = .ok (.getfield 29, 3) := by decide +kernel
theorem d_P_raise_14 : decode b_P_raise 14 = .ok (.iload_n 2, 1) := by decide +kernel
theorem d_P_raise_15 : decode b_P_raise 15 = .ok (.baload, 1) := by decide +kernel
theorem d_P_raise_16 : decode b_P_raise 16 = .ok (.iload_n 1, 1) := by decide +kernel
theorem d_P_raise_17 : decode b_P_raise 17 = .ok (.if_icmp .ge 11, 3) := by decide +kernel
theorem d_P_raise_20 : decode b_P_raise 20 = .ok (.aload_n 0, 1) := by decide +kernel
theorem d_P_raise_21 : decode b_P_raise 21 = .ok (.getfield 29, 3) := by decide +kernel
theorem d_P_raise_24 : decode b_P_raise 24 = .ok (.iload_n 2, 1) := by decide +kernel
theorem d_P_raise_25 : decode b_P_raise 25 = .ok (.iload_n 1, 1) := by decide +kernel
theorem d_P_raise_26 : decode b_P_raise 26 = .ok (.i2b, 1) := by decide +kernel
theorem d_P_raise_27 : decode b_P_raise 27 = .ok (.bastore, 1) := by decide +kernel
theorem d_P_raise_28 : decode b_P_raise 28 = .ok (.iinc 2 1, 3) := by decide +kernel
theorem d_P_raise_31 : decode b_P_raise 31 = .ok (.goto (-29), 3) := by decide +kernel
theorem d_P_raise_34 : decode b_P_raise 34 = .ok (.return_, 1) := by decide +kernel
theorem d_P_feasible_0 : decode b_P_feasible 0 = .ok (.aload_n 0, 1) := by decide +kernel
theorem d_P_feasible_1 : decode b_P_feasible 1 = .ok (.invokevirtual 104, 3) := by decide +kernel
theorem d_P_feasible_4 : decode b_P_feasible 4 = .ok (.bipush 41, 2) := by decide +kernel
theorem d_P_feasible_6 : decode b_P_feasible 6 = .ok (.istore_n 1, 1) := by decide +kernel
theorem d_P_feasible_7 : decode b_P_feasible 7 = .ok (.iconst 0, 1) := by decide +kernel
theorem d_P_feasible_8 : decode b_P_feasible 8 = .ok (.istore_n 2, 1) := by decide +kernel
theorem d_P_feasible_9 : decode b_P_feasible 9 = .ok (.iload_n 2, 1) := by decide +kernel
theorem d_P_feasible_10 : decode b_P_feasible 10 = .ok (.bipush 8, 2) := by decide +kernel
theorem d_P_feasible_12 : decode b_P_feasible 12 = .ok (.if_icmp .ge 36, 3) := by decide +kernel
theorem d_P_feasible_15 : decode b_P_feasible 15 = .ok (.aload_n 0, 1) := by decide +kernel
theorem d_P_feasible_16 : decode b_P_feasible 16 = .ok (.iload_n 1, 1) := by decide +kernel
theorem d_P_feasible_17 : decode b_P_feasible 17 = .ok (.invokevirtual 107, 3) := by decide +kernel
theorem d_P_feasible_20 : decode b_P_feasible 20 = .ok (.istore_n 3, 1) := by decide +kernel
theorem d_P_feasible_21 : decode b_P_feasible 21 = .ok (.iload_n 3, 1) := by decide +kernel
theorem d_P_feasible_22 : decode b_P_feasible 22 = .ok (.ifCond .ge 8, 3) := by decide +kernel
theorem d_P_feasible_25 : decode b_P_feasible 25 = .ok (.aload_n 0, 1) := by decide +kernel
theorem d_P_feasible_26 : decode b_P_feasible 26 = .ok (.invokevirtual 111, 3) := by decide +kernel
theorem d_P_feasible_29 : decode b_P_feasible 29 = .ok (.ireturn, 1) := by decide +kernel
theorem d_P_feasible_30 : decode b_P_feasible 30 = .ok (.aload_n 0, 1) := by decide +kernel
theorem d_P_feasible_31 : decode b_P_feasible 31 = .ok (.iload_n 3, 1) := by decide +kernel
theorem d_P_feasible_32 : decode b_P_feasible 32 = .ok (.invokevirtual 114, 3) := by decide +kernel
theorem d_P_feasible_35 : decode b_P_feasible 35 = .ok (.ifCond .ne 5, 3) := by decide +kernel
theorem d_P_feasible_38 : decode b_P_feasible 38 = .ok (.iconst 0, 1) := by decide +kernel
theorem d_P_feasible_39 : decode b_P_feasible 39 = .ok (.ireturn, 1) := by decide +kernel
theorem d_P_feasible_40 : decode b_P_feasible 40 = .ok (.iload_n 3, 1) := by decide +kernel
theorem d_P_feasible_41 : decode b_P_feasible 41 = .ok (.istore_n 1, 1) := by decide +kernel
theorem d_P_feasible_42 : decode b_P_feasible 42 = .ok (.iinc 2 1, 3) := by decide +kernel
theorem d_P_feasible_45 : decode b_P_feasible 45 = .ok (.goto (-36), 3) := by decide +kernel
theorem d_P_feasible_48 : decode b_P_feasible 48 = .ok (.aload_n 0, 1) := by decide +kernel
theorem d_P_feasible_49 : decode b_P_feasible 49 = .ok (.invokevirtual 111, 3) := by decide +kernel
theorem d_P_feasible_52 : decode b_P_feasible 52 = .ok (.ireturn, 1) := by decide +kernel
theorem d_P_shutBlocks_0 : decode b_P_shutBlocks 0 = .ok (.iconst 0, 1) := by decide +kernel
theorem d_P_shutBlocks_1 : decode b_P_shutBlocks 1 = .ok (.istore_n 1, 1) := by decide +kernel
theorem d_P_shutBlocks_2 : decode b_P_shutBlocks 2 = .ok (.iload_n 1, 1) := by decide +kernel
theorem d_P_shutBlocks_3 : decode b_P_shutBlocks 3 = .ok (.bipush 48, 2) := by decide +kernel
theorem d_P_shutBlocks_5 : decode b_P_shutBlocks 5 = .ok (.if_icmp .ge 16, 3) := by decide +kernel
theorem d_P_shutBlocks_8 : decode b_P_shutBlocks 8 = .ok (.aload_n 0, 1) := by decide +kernel
theorem d_P_shutBlocks_9 : decode b_P_shutBlocks 9 = .ok (.getfield 38, 3) := by decide +kernel
theorem d_P_shutBlocks_12 : decode b_P_shutBlocks 12 = .ok (.iload_n 1, 1) := by decide +kernel
theorem d_P_shutBlocks_13 : decode b_P_shutBlocks 13 = .ok (.iconst 0, 1) := by decide +kernel
theorem d_P_shutBlocks_14 : decode b_P_shutBlocks 14 = .ok (.bastore, 1) := by decide +kernel
theorem d_P_shutBlocks_15 : decode b_P_shutBlocks 15 = .ok (.iinc 1 1, 3) := by decide +kernel
theorem d_P_shutBlocks_18 : decode b_P_shutBlocks 18 = .ok (.goto (-16), 3) := by decide +kernel
theorem d_P_shutBlocks_21 : decode b_P_shutBlocks 21 = .ok (.iconst 0, 1) := by decide +kernel
theorem d_P_shutBlocks_22 : decode b_P_shutBlocks 22 = .ok (.istore_n 1, 1) := by decide +kernel
theorem d_P_shutBlocks_23 : decode b_P_shutBlocks 23 = .ok (.iload_n 1, 1) := by decide +kernel
theorem d_P_shutBlocks_24 : decode b_P_shutBlocks 24 = .ok (.iconst 4, 1) := by decide +kernel
theorem d_P_shutBlocks_25 : decode b_P_shutBlocks 25 = .ok (.if_icmp .ge 39, 3) := by decide +kernel
theorem d_P_shutBlocks_28 : decode b_P_shutBlocks 28 = .ok (.aload_n 0, 1) := by decide +kernel
theorem d_P_shutBlocks_29 : decode b_P_shutBlocks 29 = .ok (.getfield 20, 3) := by decide +kernel
theorem d_P_shutBlocks_32 : decode b_P_shutBlocks 32 = .ok (.iload_n 1, 1) := by decide +kernel
theorem d_P_shutBlocks_33 : decode b_P_shutBlocks 33 = .ok (.baload, 1) := by decide +kernel
theorem d_P_shutBlocks_34 : decode b_P_shutBlocks 34 = .ok (.ifCond .eq 24, 3) := by decide +kernel
theorem d_P_shutBlocks_37 : decode b_P_shutBlocks 37 = .ok (.aload_n 0, 1) := by decide +kernel
theorem d_P_shutBlocks_38 : decode b_P_shutBlocks 38 = .ok (.aload_n 0, 1) := by decide +kernel
theorem d_P_shutBlocks_39 : decode b_P_shutBlocks 39 = .ok (.getfield 23, 3) := by decide +kernel
theorem d_P_shutBlocks_42 : decode b_P_shutBlocks 42 = .ok (.iload_n 1, 1) := by decide +kernel
theorem d_P_shutBlocks_43 : decode b_P_shutBlocks 43 = .ok (.baload, 1) := by decide +kernel
theorem d_P_shutBlocks_44 : decode b_P_shutBlocks 44 = .ok (.aload_n 0, 1) := by decide +kernel
theorem d_P_shutBlocks_45 : decode b_P_shutBlocks 45 = .ok (.getfield 44, 3) := by decide +kernel
theorem d_P_shutBlocks_48 : decode b_P_shutBlocks 48 = .ok (.isub, 1) := by decide +kernel
theorem d_P_shutBlocks_49 : decode b_P_shutBlocks 49 = .ok (.aload_n 0, 1) := by decide +kernel
theorem d_P_shutBlocks_50 : decode b_P_shutBlocks 50 = .ok (.getfield 26, 3) := by decide +kernel
theorem d_P_shutBlocks_53 : decode b_P_shutBlocks 53 = .ok (.iload_n 1, 1) := by decide +kernel
theorem d_P_shutBlocks_54 : decode b_P_shutBlocks 54 = .ok (.baload, 1) := by decide +kernel
theorem d_P_shutBlocks_55 : decode b_P_shutBlocks 55 = .ok (.invokevirtual 117, 3) := by decide +kernel
theorem d_P_shutBlocks_58 : decode b_P_shutBlocks 58 = .ok (.iinc 1 1, 3) := by decide +kernel
theorem d_P_shutBlocks_61 : decode b_P_shutBlocks 61 = .ok (.goto (-38), 3) := by decide +kernel
theorem d_P_shutBlocks_64 : decode b_P_shutBlocks 64 = .ok (.return_, 1) := by decide +kernel
theorem d_P_shutBetween_0 : decode b_P_shutBetween 0 = .ok (.iload_n 1, 1) := by decide +kernel
theorem d_P_shutBetween_1 : decode b_P_shutBetween 1 = .ok (.ifCond .ge 7, 3) := by decide +kernel
theorem d_P_shutBetween_4 : decode b_P_shutBetween 4 = .ok (.iconst 0, 1) := by decide +kernel
theorem d_P_shutBetween_5 : decode b_P_shutBetween 5 = .ok (.goto 6, 3) := by decide +kernel
theorem d_P_shutBetween_8 : decode b_P_shutBetween 8 = .ok (.iload_n 1, 1) := by decide +kernel
theorem d_P_shutBetween_9 : decode b_P_shutBetween 9 = .ok (.iconst 1, 1) := by decide +kernel
theorem d_P_shutBetween_10 : decode b_P_shutBetween 10 = .ok (.iadd, 1) := by decide +kernel
theorem d_P_shutBetween_11 : decode b_P_shutBetween 11 = .ok (.istore_n 3, 1) := by decide +kernel
theorem d_P_shutBetween_12 : decode b_P_shutBetween 12 = .ok (.iload_n 3, 1) := by decide +kernel
theorem d_P_shutBetween_13 : decode b_P_shutBetween 13 = .ok (.iload_n 2, 1) := by decide +kernel
theorem d_P_shutBetween_14 : decode b_P_shutBetween 14 = .ok (.if_icmp .ge 22, 3) := by decide +kernel
theorem d_P_shutBetween_17 : decode b_P_shutBetween 17 = .ok (.iload_n 3, 1) := by decide +kernel
theorem d_P_shutBetween_18 : decode b_P_shutBetween 18 = .ok (.bipush 48, 2) := by decide +kernel
theorem d_P_shutBetween_20 : decode b_P_shutBetween 20 = .ok (.if_icmp .ge 16, 3) := by decide +kernel
theorem d_P_shutBetween_23 : decode b_P_shutBetween 23 = .ok (.aload_n 0, 1) := by decide +kernel
theorem d_P_shutBetween_24 : decode b_P_shutBetween 24 = .ok (.getfield 38, 3) := by decide +kernel
theorem d_P_shutBetween_27 : decode b_P_shutBetween 27 = .ok (.iload_n 3, 1) := by decide +kernel
theorem d_P_shutBetween_28 : decode b_P_shutBetween 28 = .ok (.iconst 1, 1) := by decide +kernel
theorem d_P_shutBetween_29 : decode b_P_shutBetween 29 = .ok (.bastore, 1) := by decide +kernel
theorem d_P_shutBetween_30 : decode b_P_shutBetween 30 = .ok (.iinc 3 1, 3) := by decide +kernel
theorem d_P_shutBetween_33 : decode b_P_shutBetween 33 = .ok (.goto (-21), 3) := by decide +kernel
theorem d_P_shutBetween_36 : decode b_P_shutBetween 36 = .ok (.return_, 1) := by decide +kernel
theorem d_P_greatestReleaseBelow_0 : decode b_P_greatestReleaseBelow 0 = .ok (.iconst (-1), 1) := by decide +kernel
theorem d_P_greatestReleaseBelow_1 : decode b_P_greatestReleaseBelow 1 = .ok (.istore_n 2, 1) := by decide +kernel
theorem d_P_greatestReleaseBelow_2 : decode b_P_greatestReleaseBelow 2 = .ok (.iconst 0, 1) := by decide +kernel
theorem d_P_greatestReleaseBelow_3 : decode b_P_greatestReleaseBelow 3 = .ok (.istore_n 3, 1) := by decide +kernel
theorem d_P_greatestReleaseBelow_4 : decode b_P_greatestReleaseBelow 4 = .ok (.iload_n 3, 1) := by decide +kernel
theorem d_P_greatestReleaseBelow_5 : decode b_P_greatestReleaseBelow 5 = .ok (.aload_n 0, 1) := by decide +kernel
theorem d_P_greatestReleaseBelow_6 : decode b_P_greatestReleaseBelow 6 = .ok (.getfield 101, 3) := by decide +kernel
theorem d_P_greatestReleaseBelow_9 : decode b_P_greatestReleaseBelow 9 = .ok (.if_icmp .ge 36, 3) := by decide +kernel
theorem d_P_greatestReleaseBelow_12 : decode b_P_greatestReleaseBelow 12 = .ok (.aload_n 0, 1) := by decide +kernel
theorem d_P_greatestReleaseBelow_13 : decode b_P_greatestReleaseBelow 13 = .ok (.getfield 29, 3) := by decide +kernel
theorem d_P_greatestReleaseBelow_16 : decode b_P_greatestReleaseBelow 16 = .ok (.iload_n 3, 1) := by decide +kernel
theorem d_P_greatestReleaseBelow_17 : decode b_P_greatestReleaseBelow 17 = .ok (.baload, 1) := by decide +kernel
theorem d_P_greatestReleaseBelow_18 : decode b_P_greatestReleaseBelow 18 = .ok (.iload_n 1, 1) := by decide +kernel
theorem d_P_greatestReleaseBelow_19 : decode b_P_greatestReleaseBelow 19 = .ok (.if_icmp .ge 20, 3) := by decide +kernel
theorem d_P_greatestReleaseBelow_22 : decode b_P_greatestReleaseBelow 22 = .ok (.aload_n 0, 1) := by decide +kernel
theorem d_P_greatestReleaseBelow_23 : decode b_P_greatestReleaseBelow 23 = .ok (.getfield 29, 3) := by decide +kernel
theorem d_P_greatestReleaseBelow_26 : decode b_P_greatestReleaseBelow 26 = .ok (.iload_n 3, 1) := by decide +kernel
theorem d_P_greatestReleaseBelow_27 : decode b_P_greatestReleaseBelow 27 = .ok (.baload, 1) := by decide +kernel
theorem d_P_greatestReleaseBelow_28 : decode b_P_greatestReleaseBelow 28 = .ok (.iload_n 2, 1) := by decide +kernel
theorem d_P_greatestReleaseBelow_29 : decode b_P_greatestReleaseBelow 29 = .ok (.if_icmp .le 10, 3) := by decide +kernel
theorem d_P_greatestReleaseBelow_32 : decode b_P_greatestReleaseBelow 32 = .ok (.aload_n 0, 1) := by decide +kernel
theorem d_P_greatestReleaseBelow_33 : decode b_P_greatestReleaseBelow 33 = .ok (.getfield 29, 3) := by decide +kernel
theorem d_P_greatestReleaseBelow_36 : decode b_P_greatestReleaseBelow 36 = .ok (.iload_n 3, 1) := by decide +kernel
theorem d_P_greatestReleaseBelow_37 : decode b_P_greatestReleaseBelow 37 = .ok (.baload, 1) := by decide +kernel
theorem d_P_greatestReleaseBelow_38 : decode b_P_greatestReleaseBelow 38 = .ok (.istore_n 2, 1) := by decide +kernel
theorem d_P_greatestReleaseBelow_39 : decode b_P_greatestReleaseBelow 39 = .ok (.iinc 3 1, 3) := by decide +kernel
theorem d_P_greatestReleaseBelow_42 : decode b_P_greatestReleaseBelow 42 = .ok (.goto (-38), 3) := by decide +kernel
theorem d_P_greatestReleaseBelow_45 : decode b_P_greatestReleaseBelow 45 = .ok (.iload_n 2, 1) := by decide +kernel
theorem d_P_greatestReleaseBelow_46 : decode b_P_greatestReleaseBelow 46 = .ok (.ireturn, 1) := by decide +kernel
theorem d_P_shutBefore_0 : decode b_P_shutBefore 0 = .ok (.bipush 41, 2) := by decide +kernel
theorem d_P_shutBefore_2 : decode b_P_shutBefore 2 = .ok (.istore_n 2, 1) := by decide +kernel
theorem d_P_shutBefore_3 : decode b_P_shutBefore 3 = .ok (.iconst 0, 1) := by decide +kernel
theorem d_P_shutBefore_4 : decode b_P_shutBefore 4 = .ok (.istore_n 3, 1) := by decide +kernel
theorem d_P_shutBefore_5 : decode b_P_shutBefore 5 = .ok (.iload_n 3, 1) := by decide +kernel
theorem d_P_shutBefore_6 : decode b_P_shutBefore 6 = .ok (.aload_n 0, 1) := by decide +kernel
theorem d_P_shutBefore_7 : decode b_P_shutBefore 7 = .ok (.getfield 101, 3) := by decide +kernel
theorem d_P_shutBefore_10 : decode b_P_shutBefore 10 = .ok (.if_icmp .ge 45, 3) := by decide +kernel
theorem d_P_shutBefore_13 : decode b_P_shutBefore 13 = .ok (.aload_n 0, 1) := by decide +kernel
theorem d_P_shutBefore_14 : decode b_P_shutBefore 14 = .ok (.getfield 32, 3) := by decide +kernel
theorem d_P_shutBefore_17 : decode b_P_shutBefore 17 = .ok (.iload_n 3, 1) := by decide +kernel
theorem d_P_shutBefore_18 : decode b_P_shutBefore 18 = .ok (.baload, 1) := by decide +kernel
theorem d_P_shutBefore_19 : decode b_P_shutBefore 19 = .ok (.istore 4, 2) := by decide +kernel
theorem d_P_shutBefore_21 : decode b_P_shutBefore 21 = .ok (.aload_n 0, 1) := by decide +kernel
theorem d_P_shutBefore_22 : decode b_P_shutBefore 22 = .ok (.iload_n 1, 1) := by decide +kernel
theorem d_P_shutBefore_23 : decode b_P_shutBefore 23 = .ok (.iload 4, 2) := by decide +kernel
theorem d_P_shutBefore_25 : decode b_P_shutBefore 25 = .ok (.invokevirtual 120, 3) := by decide +kernel
theorem d_P_shutBefore_28 : decode b_P_shutBefore 28 = .ok (.istore 5, 2) := by decide +kernel
theorem d_P_shutBefore_30 : decode b_P_shutBefore 30 = .ok (.aload_n 0, 1) := by decide +kernel
theorem d_P_shutBefore_31 : decode b_P_shutBefore 31 = .ok (.iload 4, 2) := by decide +kernel
theorem d_P_shutBefore_33 : decode b_P_shutBefore 33 = .ok (.iload 5, 2) := by decide +kernel
theorem d_P_shutBefore_35 : decode b_P_shutBefore 35 = .ok (.invokevirtual 123, 3) := by decide +kernel
theorem d_P_shutBefore_38 : decode b_P_shutBefore 38 = .ok (.istore 6, 2) := by decide +kernel
theorem d_P_shutBefore_40 : decode b_P_shutBefore 40 = .ok (.iload 6, 2) := by decide +kernel
theorem d_P_shutBefore_42 : decode b_P_shutBefore 42 = .ok (.iload_n 2, 1) := by decide +kernel
theorem d_P_shutBefore_43 : decode b_P_shutBefore 43 = .ok (.if_icmp .ge 6, 3) := by decide +kernel
theorem d_P_shutBefore_46 : decode b_P_shutBefore 46 = .ok (.iload 6, 2) := by decide +kernel
theorem d_P_shutBefore_48 : decode b_P_shutBefore 48 = .ok (.istore_n 2, 1) := by decide +kernel
theorem d_P_shutBefore_49 : decode b_P_shutBefore 49 = .ok (.iinc 3 1, 3) := by decide +kernel
theorem d_P_shutBefore_52 : decode b_P_shutBefore 52 = .ok (.goto (-47), 3) := by decide +kernel
theorem d_P_shutBefore_55 : decode b_P_shutBefore 55 = .ok (.iload_n 2, 1) := by decide +kernel
theorem d_P_shutBefore_56 : decode b_P_shutBefore 56 = .ok (.iload_n 1, 1) := by decide +kernel
theorem d_P_shutBefore_57 : decode b_P_shutBefore 57 = .ok (.if_icmp .ge 5, 3) := by decide +kernel
theorem d_P_shutBefore_60 : decode b_P_shutBefore 60 = .ok (.iconst 0, 1) := by decide +kernel
theorem d_P_shutBefore_61 : decode b_P_shutBefore 61 = .ok (.ireturn, 1) := by decide +kernel
theorem d_P_shutBefore_62 : decode b_P_shutBefore 62 = .ok (.iload_n 2, 1) := by decide +kernel
theorem d_P_shutBefore_63 : decode b_P_shutBefore 63 = .ok (.iload_n 1, 1) := by decide +kernel
theorem d_P_shutBefore_64 : decode b_P_shutBefore 64 = .ok (.aload_n 0, 1) := by decide +kernel
theorem d_P_shutBefore_65 : decode b_P_shutBefore 65 = .ok (.getfield 44, 3) := by decide +kernel
theorem d_P_shutBefore_68 : decode b_P_shutBefore 68 = .ok (.iadd, 1) := by decide +kernel
theorem d_P_shutBefore_69 : decode b_P_shutBefore 69 = .ok (.if_icmp .ge 14, 3) := by decide +kernel
theorem d_P_shutBefore_72 : decode b_P_shutBefore 72 = .ok (.aload_n 0, 1) := by decide +kernel
theorem d_P_shutBefore_73 : decode b_P_shutBefore 73 = .ok (.iload_n 2, 1) := by decide +kernel
theorem d_P_shutBefore_74 : decode b_P_shutBefore 74 = .ok (.aload_n 0, 1) := by decide +kernel
theorem d_P_shutBefore_75 : decode b_P_shutBefore 75 = .ok (.getfield 44, 3) := by decide +kernel
theorem d_P_shutBefore_78 : decode b_P_shutBefore 78 = .ok (.isub, 1) := by decide +kernel
theorem d_P_shutBefore_79 : decode b_P_shutBefore 79 = .ok (.iload_n 1, 1) := by decide +kernel
theorem d_P_shutBefore_80 : decode b_P_shutBefore 80 = .ok (.invokevirtual 117, 3) := by decide +kernel
theorem d_P_shutBefore_83 : decode b_P_shutBefore 83 = .ok (.iconst 1, 1) := by decide +kernel
theorem d_P_shutBefore_84 : decode b_P_shutBefore 84 = .ok (.ireturn, 1) := by decide +kernel
theorem d_P_countWithin_0 : decode b_P_countWithin 0 = .ok (.iconst 0, 1) := by decide +kernel
theorem d_P_countWithin_1 : decode b_P_countWithin 1 = .ok (.istore_n 3, 1) := by decide +kernel
theorem d_P_countWithin_2 : decode b_P_countWithin 2 = .ok (.iconst 0, 1) := by decide +kernel
theorem d_P_countWithin_3 : decode b_P_countWithin 3 = .ok (.istore 4, 2) := by decide +kernel
theorem d_P_countWithin_5 : decode b_P_countWithin 5 = .ok (.iload 4, 2) := by decide +kernel
theorem d_P_countWithin_7 : decode b_P_countWithin 7 = .ok (.aload_n 0, 1) := by decide +kernel
theorem d_P_countWithin_8 : decode b_P_countWithin 8 = .ok (.getfield 101, 3) := by decide +kernel
theorem d_P_countWithin_11 : decode b_P_countWithin 11 = .ok (.if_icmp .ge 34, 3) := by decide +kernel
theorem d_P_countWithin_14 : decode b_P_countWithin 14 = .ok (.aload_n 0, 1) := by decide +kernel
theorem d_P_countWithin_15 : decode b_P_countWithin 15 = .ok (.getfield 29, 3) := by decide +kernel
theorem d_P_countWithin_18 : decode b_P_countWithin 18 = .ok (.iload 4, 2) := by decide +kernel
theorem d_P_countWithin_20 : decode b_P_countWithin 20 = .ok (.baload, 1) := by decide +kernel
theorem d_P_countWithin_21 : decode b_P_countWithin 21 = .ok (.iload_n 1, 1) := by decide +kernel
theorem d_P_countWithin_22 : decode b_P_countWithin 22 = .ok (.if_icmp .lt 17, 3) := by decide +kernel
theorem d_P_countWithin_25 : decode b_P_countWithin 25 = .ok (.aload_n 0, 1) := by decide +kernel
theorem d_P_countWithin_26 : decode b_P_countWithin 26 = .ok (.getfield 32, 3) := by decide +kernel
theorem d_P_countWithin_29 : decode b_P_countWithin 29 = .ok (.iload 4, 2) := by decide +kernel
theorem d_P_countWithin_31 : decode b_P_countWithin 31 = .ok (.baload, 1) := by decide +kernel
theorem d_P_countWithin_32 : decode b_P_countWithin 32 = .ok (.iload_n 2, 1) := by decide +kernel
theorem d_P_countWithin_33 : decode b_P_countWithin 33 = .ok (.if_icmp .gt 6, 3) := by decide +kernel
theorem d_P_countWithin_36 : decode b_P_countWithin 36 = .ok (.iinc 3 1, 3) := by decide +kernel
theorem d_P_countWithin_39 : decode b_P_countWithin 39 = .ok (.iinc 4 1, 3) := by decide +kernel
theorem d_P_countWithin_42 : decode b_P_countWithin 42 = .ok (.goto (-37), 3) := by decide +kernel
theorem d_P_countWithin_45 : decode b_P_countWithin 45 = .ok (.iload_n 3, 1) := by decide +kernel
theorem d_P_countWithin_46 : decode b_P_countWithin 46 = .ok (.ireturn, 1) := by decide +kernel
theorem d_P_backFrom_0 : decode b_P_backFrom 0 = .ok (.iload_n 2, 1) := by decide +kernel
theorem d_P_backFrom_1 : decode b_P_backFrom 1 = .ok (.ifCond .ne 6, 3) := by decide +kernel
theorem d_P_backFrom_4 : decode b_P_backFrom 4 = .ok (.bipush 41, 2) := by decide +kernel
theorem d_P_backFrom_6 : decode b_P_backFrom 6 = .ok (.ireturn, 1) := by decide +kernel
theorem d_P_backFrom_7 : decode b_P_backFrom 7 = .ok (.iload_n 1, 1) := by decide +kernel
theorem d_P_backFrom_8 : decode b_P_backFrom 8 = .ok (.istore_n 3, 1) := by decide +kernel
theorem d_P_backFrom_9 : decode b_P_backFrom 9 = .ok (.iconst 0, 1) := by decide +kernel
theorem d_P_backFrom_10 : decode b_P_backFrom 10 = .ok (.istore 4, 2) := by decide +kernel
theorem d_P_backFrom_12 : decode b_P_backFrom 12 = .ok (.iload 4, 2) := by decide +kernel
theorem d_P_backFrom_14 : decode b_P_backFrom 14 = .ok (.iload_n 2, 1) := by decide +kernel
theorem d_P_backFrom_15 : decode b_P_backFrom 15 = .ok (.if_icmp .ge 20, 3) := by decide +kernel
theorem d_P_backFrom_18 : decode b_P_backFrom 18 = .ok (.aload_n 0, 1) := by decide +kernel
theorem d_P_backFrom_19 : decode b_P_backFrom 19 = .ok (.iload_n 3, 1) := by decide +kernel
theorem d_P_backFrom_20 : decode b_P_backFrom 20 = .ok (.aload_n 0, 1) := by decide +kernel
theorem d_P_backFrom_21 : decode b_P_backFrom 21 = .ok (.getfield 44, 3) := by decide +kernel
theorem d_P_backFrom_24 : decode b_P_backFrom 24 = .ok (.isub, 1) := by decide +kernel
theorem d_P_backFrom_25 : decode b_P_backFrom 25 = .ok (.invokevirtual 126, 3) := by decide +kernel
theorem d_P_backFrom_28 : decode b_P_backFrom 28 = .ok (.istore_n 3, 1) := by decide +kernel
theorem d_P_backFrom_29 : decode b_P_backFrom 29 = .ok (.iinc 4 1, 3) := by decide +kernel
theorem d_P_backFrom_32 : decode b_P_backFrom 32 = .ok (.goto (-20), 3) := by decide +kernel
theorem d_P_backFrom_35 : decode b_P_backFrom 35 = .ok (.iload_n 3, 1) := by decide +kernel
theorem d_P_backFrom_36 : decode b_P_backFrom 36 = .ok (.ireturn, 1) := by decide +kernel
theorem d_P_openAtOrBefore_0 : decode b_P_openAtOrBefore 0 = .ok (.iload_n 1, 1) := by decide +kernel
theorem d_P_openAtOrBefore_1 : decode b_P_openAtOrBefore 1 = .ok (.istore_n 2, 1) := by decide +kernel
theorem d_P_openAtOrBefore_2 : decode b_P_openAtOrBefore 2 = .ok (.iload_n 2, 1) := by decide +kernel
theorem d_P_openAtOrBefore_3 : decode b_P_openAtOrBefore 3 = .ok (.ifCond .lt 18, 3) := by decide +kernel
theorem d_P_openAtOrBefore_6 : decode b_P_openAtOrBefore 6 = .ok (.aload_n 0, 1) := by decide +kernel
theorem d_P_openAtOrBefore_7 : decode b_P_openAtOrBefore 7 = .ok (.getfield 38, 3) := by decide +kernel
theorem d_P_openAtOrBefore_10 : decode b_P_openAtOrBefore 10 = .ok (.iload_n 2, 1) := by decide +kernel
theorem d_P_openAtOrBefore_11 : decode b_P_openAtOrBefore 11 = .ok (.baload, 1) := by decide +kernel
theorem d_P_openAtOrBefore_12 : decode b_P_openAtOrBefore 12 = .ok (.ifCond .eq 9, 3) := by decide +kernel
theorem d_P_openAtOrBefore_15 : decode b_P_openAtOrBefore 15 = .ok (.iinc 2 (-1), 3) := by decide +kernel
theorem d_P_openAtOrBefore_18 : decode b_P_openAtOrBefore 18 = .ok (.goto (-16), 3) := by decide +kernel
theorem d_P_openAtOrBefore_21 : decode b_P_openAtOrBefore 21 = .ok (.iload_n 2, 1) := by decide +kernel
theorem d_P_openAtOrBefore_22 : decode b_P_openAtOrBefore 22 = .ok (.ifCond .ge 7, 3) := by decide +kernel
theorem d_P_openAtOrBefore_25 : decode b_P_openAtOrBefore 25 = .ok (.iconst (-1), 1) := by decide +kernel
theorem d_P_openAtOrBefore_26 : decode b_P_openAtOrBefore 26 = .ok (.goto 4, 3) := by decide +kernel
theorem d_P_openAtOrBefore_29 : decode b_P_openAtOrBefore 29 = .ok (.iload_n 2, 1) := by decide +kernel
theorem d_P_openAtOrBefore_30 : decode b_P_openAtOrBefore 30 = .ok (.ireturn, 1) := by decide +kernel
theorem d_P_openAtOrAfter_0 : decode b_P_openAtOrAfter 0 = .ok (.iload_n 1, 1) := by decide +kernel
theorem d_P_openAtOrAfter_1 : decode b_P_openAtOrAfter 1 = .ok (.istore_n 2, 1) := by decide +kernel
theorem d_P_openAtOrAfter_2 : decode b_P_openAtOrAfter 2 = .ok (.iload_n 2, 1) := by decide +kernel
theorem d_P_openAtOrAfter_3 : decode b_P_openAtOrAfter 3 = .ok (.bipush 47, 2) := by decide +kernel
theorem d_P_openAtOrAfter_5 : decode b_P_openAtOrAfter 5 = .ok (.if_icmp .ge 18, 3) := by decide +kernel
theorem d_P_openAtOrAfter_8 : decode b_P_openAtOrAfter 8 = .ok (.aload_n 0, 1) := by decide +kernel
theorem d_P_openAtOrAfter_9 : decode b_P_openAtOrAfter 9 = .ok (.getfield 38, 3) := by decide +kernel
theorem d_P_openAtOrAfter_12 : decode b_P_openAtOrAfter 12 = .ok (.iload_n 2, 1) := by decide +kernel
theorem d_P_openAtOrAfter_13 : decode b_P_openAtOrAfter 13 = .ok (.baload, 1) := by decide +kernel
theorem d_P_openAtOrAfter_14 : decode b_P_openAtOrAfter 14 = .ok (.ifCond .eq 9, 3) := by decide +kernel
theorem d_P_openAtOrAfter_17 : decode b_P_openAtOrAfter 17 = .ok (.iinc 2 1, 3) := by decide +kernel
theorem d_P_openAtOrAfter_20 : decode b_P_openAtOrAfter 20 = .ok (.goto (-18), 3) := by decide +kernel
theorem d_P_openAtOrAfter_23 : decode b_P_openAtOrAfter 23 = .ok (.iload_n 2, 1) := by decide +kernel
theorem d_P_openAtOrAfter_24 : decode b_P_openAtOrAfter 24 = .ok (.ireturn, 1) := by decide +kernel
theorem d_P_dispatch_0 : decode b_P_dispatch 0 = .ok (.iconst 0, 1) := by decide +kernel
theorem d_P_dispatch_1 : decode b_P_dispatch 1 = .ok (.istore_n 1, 1) := by decide +kernel
theorem d_P_dispatch_2 : decode b_P_dispatch 2 = .ok (.iload_n 1, 1) := by decide +kernel
theorem d_P_dispatch_3 : decode b_P_dispatch 3 = .ok (.aload_n 0, 1) := by decide +kernel
theorem d_P_dispatch_4 : decode b_P_dispatch 4 = .ok (.getfield 101, 3) := by decide +kernel
theorem d_P_dispatch_7 : decode b_P_dispatch 7 = .ok (.if_icmp .ge 16, 3) := by decide +kernel
theorem d_P_dispatch_10 : decode b_P_dispatch 10 = .ok (.aload_n 0, 1) := by decide +kernel
theorem d_P_dispatch_11 : decode b_P_dispatch 11 = .ok (.getfield 35, 3) := by decide +kernel
theorem d_P_dispatch_14 : decode b_P_dispatch 14 = .ok (.iload_n 1, 1) := by decide +kernel
theorem d_P_dispatch_15 : decode b_P_dispatch 15 = .ok (.iconst 0, 1) := by decide +kernel
theorem d_P_dispatch_16 : decode b_P_dispatch 16 = .ok (.bastore, 1) := by decide +kernel
theorem d_P_dispatch_17 : decode b_P_dispatch 17 = .ok (.iinc 1 1, 3) := by decide +kernel
theorem d_P_dispatch_20 : decode b_P_dispatch 20 = .ok (.goto (-18), 3) := by decide +kernel
theorem d_P_dispatch_23 : decode b_P_dispatch 23 = .ok (.iconst 0, 1) := by decide +kernel
theorem d_P_dispatch_24 : decode b_P_dispatch 24 = .ok (.istore_n 1, 1) := by decide +kernel
theorem d_P_dispatch_25 : decode b_P_dispatch 25 = .ok (.iconst 0, 1) := by decide +kernel
theorem d_P_dispatch_26 : decode b_P_dispatch 26 = .ok (.istore_n 2, 1) := by decide +kernel
theorem d_P_dispatch_27 : decode b_P_dispatch 27 = .ok (.iload_n 2, 1) := by decide +kernel
theorem d_P_dispatch_28 : decode b_P_dispatch 28 = .ok (.aload_n 0, 1) := by decide +kernel
theorem d_P_dispatch_29 : decode b_P_dispatch 29 = .ok (.getfield 101, 3) := by decide +kernel
theorem d_P_dispatch_32 : decode b_P_dispatch 32 = .ok (.if_icmp .ge 74, 3) := by decide +kernel
theorem d_P_dispatch_35 : decode b_P_dispatch 35 = .ok (.aload_n 0, 1) := by decide +kernel
theorem d_P_dispatch_36 : decode b_P_dispatch 36 = .ok (.invokevirtual 129, 3) := by decide +kernel
theorem d_P_dispatch_39 : decode b_P_dispatch 39 = .ok (.istore_n 3, 1) := by decide +kernel
theorem d_P_dispatch_40 : decode b_P_dispatch 40 = .ok (.aload_n 0, 1) := by decide +kernel
theorem d_P_dispatch_41 : decode b_P_dispatch 41 = .ok (.iload_n 3, 1) := by decide +kernel
theorem d_P_dispatch_42 : decode b_P_dispatch 42 = .ok (.iload_n 1, 1) := by decide +kernel
theorem d_P_dispatch_43 : decode b_P_dispatch 43 = .ok (.if_icmp .le 7, 3) := by decide +kernel
theorem d_P_dispatch_46 : decode b_P_dispatch 46 = .ok (.iload_n 3, 1) := by decide +kernel
theorem d_P_dispatch_47 : decode b_P_dispatch 47 = .ok (.goto 4, 3) := by decide +kernel
theorem d_P_dispatch_50 : decode b_P_dispatch 50 = .ok (.iload_n 1, 1) := by decide +kernel
theorem d_P_dispatch_51 : decode b_P_dispatch 51 = .ok (.invokevirtual 132, 3) := by decide +kernel
theorem d_P_dispatch_54 : decode b_P_dispatch 54 = .ok (.istore_n 1, 1) := by decide +kernel
theorem d_P_dispatch_55 : decode b_P_dispatch 55 = .ok (.aload_n 0, 1) := by decide +kernel
theorem d_P_dispatch_56 : decode b_P_dispatch 56 = .ok (.iload_n 1, 1) := by decide +kernel
theorem d_P_dispatch_57 : decode b_P_dispatch 57 = .ok (.invokevirtual 135, 3) := by decide +kernel
theorem d_P_dispatch_60 : decode b_P_dispatch 60 = .ok (.istore 4, 2) := by decide +kernel
theorem d_P_dispatch_62 : decode b_P_dispatch 62 = .ok (.iload 4, 2) := by decide +kernel
theorem d_P_dispatch_64 : decode b_P_dispatch 64 = .ok (.ifCond .lt 19, 3) := by decide +kernel
theorem d_P_dispatch_67 : decode b_P_dispatch 67 = .ok (.iload_n 1, 1) := by decide +kernel
theorem d_P_dispatch_68 : decode b_P_dispatch 68 = .ok (.aload_n 0, 1) := by decide +kernel
theorem d_P_dispatch_69 : decode b_P_dispatch 69 = .ok (.getfield 44, 3) := by decide +kernel
theorem d_P_dispatch_72 : decode b_P_dispatch 72 = .ok (.iadd, 1) := by decide +kernel
theorem d_P_dispatch_73 : decode b_P_dispatch 73 = .ok (.aload_n 0, 1) := by decide +kernel
theorem d_P_dispatch_74 : decode b_P_dispatch 74 = .ok (.getfield 32, 3) := by decide +kernel
theorem d_P_dispatch_77 : decode b_P_dispatch 77 = .ok (.iload 4, 2) := by decide +kernel
theorem d_P_dispatch_79 : decode b_P_dispatch 79 = .ok (.baload, 1) := by decide +kernel
theorem d_P_dispatch_80 : decode b_P_dispatch 80 = .ok (.if_icmp .le 5, 3) := by decide +kernel
theorem d_P_dispatch_83 : decode b_P_dispatch 83 = .ok (.iconst 0, 1) := by decide +kernel
theorem d_P_dispatch_84 : decode b_P_dispatch 84 = .ok (.ireturn, 1) := by decide +kernel
theorem d_P_dispatch_85 : decode b_P_dispatch 85 = .ok (.aload_n 0, 1) := by decide +kernel
theorem d_P_dispatch_86 : decode b_P_dispatch 86 = .ok (.getfield 35, 3) := by decide +kernel
theorem d_P_dispatch_89 : decode b_P_dispatch 89 = .ok (.iload 4, 2) := by decide +kernel
theorem d_P_dispatch_91 : decode b_P_dispatch 91 = .ok (.iconst 1, 1) := by decide +kernel
theorem d_P_dispatch_92 : decode b_P_dispatch 92 = .ok (.bastore, 1) := by decide +kernel
theorem d_P_dispatch_93 : decode b_P_dispatch 93 = .ok (.iload_n 1, 1) := by decide +kernel
theorem d_P_dispatch_94 : decode b_P_dispatch 94 = .ok (.aload_n 0, 1) := by decide +kernel
theorem d_P_dispatch_95 : decode b_P_dispatch 95 = .ok (.getfield 44, 3) := by decide +kernel
theorem d_P_dispatch_98 : decode b_P_dispatch 98 = .ok (.iadd, 1) := by decide +kernel
theorem d_P_dispatch_99 : decode b_P_dispatch 99 = .ok (.istore_n 1, 1) := by decide +kernel
theorem d_P_dispatch_100 : decode b_P_dispatch 100 = .ok (.iinc 2 1, 3) := by decide +kernel
theorem d_P_dispatch_103 : decode b_P_dispatch 103 = .ok (.goto (-76), 3) := by decide +kernel
theorem d_P_dispatch_106 : decode b_P_dispatch 106 = .ok (.aload_n 0, 1) := by decide +kernel
theorem d_P_dispatch_107 : decode b_P_dispatch 107 = .ok (.iload_n 1, 1) := by decide +kernel
theorem d_P_dispatch_108 : decode b_P_dispatch 108 = .ok (.putfield 86, 3) := by decide +kernel
theorem d_P_dispatch_111 : decode b_P_dispatch 111 = .ok (.iconst 1, 1) := by decide +kernel
theorem d_P_dispatch_112 : decode b_P_dispatch 112 = .ok (.ireturn, 1) := by decide +kernel
theorem d_P_leastWaitingRelease_0 : decode b_P_leastWaitingRelease 0 = .ok (.bipush 41, 2) := by decide +kernel
theorem d_P_leastWaitingRelease_2 : decode b_P_leastWaitingRelease 2 = .ok (.istore_n 1, 1) := by decide +kernel
theorem d_P_leastWaitingRelease_3 : decode b_P_leastWaitingRelease 3 = .ok (.iconst 0, 1) := by decide +kernel
theorem d_P_leastWaitingRelease_4 : decode b_P_leastWaitingRelease 4 = .ok (.istore_n 2, 1) := by decide +kernel
theorem d_P_leastWaitingRelease_5 : decode b_P_leastWaitingRelease 5 = .ok (.iload_n 2, 1) := by decide +kernel
theorem d_P_leastWaitingRelease_6 : decode b_P_leastWaitingRelease 6 = .ok (.aload_n 0, 1) := by decide +kernel
theorem d_P_leastWaitingRelease_7 : decode b_P_leastWaitingRelease 7 = .ok (.getfield 101, 3) := by decide +kernel
theorem d_P_leastWaitingRelease_10 : decode b_P_leastWaitingRelease 10 = .ok (.if_icmp .ge 35, 3) := by decide +kernel
theorem d_P_leastWaitingRelease_13 : decode b_P_leastWaitingRelease 13 = .ok (.aload_n 0, 1) := by decide +kernel
theorem d_P_leastWaitingRelease_14 : decode b_P_leastWaitingRelease 14 = .ok (.getfield 35, 3) := by decide +kernel
theorem d_P_leastWaitingRelease_17 : decode b_P_leastWaitingRelease 17 = .ok (.iload_n 2, 1) := by decide +kernel
theorem d_P_leastWaitingRelease_18 : decode b_P_leastWaitingRelease 18 = .ok (.baload, 1) := by decide +kernel
theorem d_P_leastWaitingRelease_19 : decode b_P_leastWaitingRelease 19 = .ok (.ifCond .ne 20, 3) := by decide +kernel
theorem d_P_leastWaitingRelease_22 : decode b_P_leastWaitingRelease 22 = .ok (.aload_n 0, 1) := by decide +kernel
theorem d_P_leastWaitingRelease_23 : decode b_P_leastWaitingRelease 23 = .ok (.getfield 29, 3) := by decide +kernel
theorem d_P_leastWaitingRelease_26 : decode b_P_leastWaitingRelease 26 = .ok (.iload_n 2, 1) := by decide +kernel
theorem d_P_leastWaitingRelease_27 : decode b_P_leastWaitingRelease 27 = .ok (.baload, 1) := by decide +kernel
theorem d_P_leastWaitingRelease_28 : decode b_P_leastWaitingRelease 28 = .ok (.iload_n 1, 1) := by decide +kernel
theorem d_P_leastWaitingRelease_29 : decode b_P_leastWaitingRelease 29 = .ok (.if_icmp .ge 10, 3) := by decide +kernel
theorem d_P_leastWaitingRelease_32 : decode b_P_leastWaitingRelease 32 = .ok (.aload_n 0, 1) := by decide +kernel
theorem d_P_leastWaitingRelease_33 : decode b_P_leastWaitingRelease 33 = .ok (.getfield 29, 3) := by decide +kernel
theorem d_P_leastWaitingRelease_36 : decode b_P_leastWaitingRelease 36 = .ok (.iload_n 2, 1) := by decide +kernel
theorem d_P_leastWaitingRelease_37 : decode b_P_leastWaitingRelease 37 = .ok (.baload, 1) := by decide +kernel
theorem d_P_leastWaitingRelease_38 : decode b_P_leastWaitingRelease 38 = .ok (.istore_n 1, 1) := by decide +kernel
theorem d_P_leastWaitingRelease_39 : decode b_P_leastWaitingRelease 39 = .ok (.iinc 2 1, 3) := by decide +kernel
theorem d_P_leastWaitingRelease_42 : decode b_P_leastWaitingRelease 42 = .ok (.goto (-37), 3) := by decide +kernel
theorem d_P_leastWaitingRelease_45 : decode b_P_leastWaitingRelease 45 = .ok (.iload_n 1, 1) := by decide +kernel
theorem d_P_leastWaitingRelease_46 : decode b_P_leastWaitingRelease 46 = .ok (.ireturn, 1) := by decide +kernel
theorem d_P_mostUrgent_0 : decode b_P_mostUrgent 0 = .ok (.iconst (-1), 1) := by decide +kernel
theorem d_P_mostUrgent_1 : decode b_P_mostUrgent 1 = .ok (.istore_n 2, 1) := by decide +kernel
theorem d_P_mostUrgent_2 : decode b_P_mostUrgent 2 = .ok (.iconst 0, 1) := by decide +kernel
theorem d_P_mostUrgent_3 : decode b_P_mostUrgent 3 = .ok (.istore_n 3, 1) := by decide +kernel
theorem d_P_mostUrgent_4 : decode b_P_mostUrgent 4 = .ok (.iload_n 3, 1) := by decide +kernel
theorem d_P_mostUrgent_5 : decode b_P_mostUrgent 5 = .ok (.aload_n 0, 1) := by decide +kernel
theorem d_P_mostUrgent_6 : decode b_P_mostUrgent 6 = .ok (.getfield 101, 3) := by decide +kernel
theorem d_P_mostUrgent_9 : decode b_P_mostUrgent 9 = .ok (.if_icmp .ge 49, 3) := by decide +kernel
theorem d_P_mostUrgent_12 : decode b_P_mostUrgent 12 = .ok (.aload_n 0, 1) := by decide +kernel
theorem d_P_mostUrgent_13 : decode b_P_mostUrgent 13 = .ok (.getfield 35, 3) := by decide +kernel
theorem d_P_mostUrgent_16 : decode b_P_mostUrgent 16 = .ok (.iload_n 3, 1) := by decide +kernel
theorem d_P_mostUrgent_17 : decode b_P_mostUrgent 17 = .ok (.baload, 1) := by decide +kernel
theorem d_P_mostUrgent_18 : decode b_P_mostUrgent 18 = .ok (.ifCond .ne 34, 3) := by decide +kernel
theorem d_P_mostUrgent_21 : decode b_P_mostUrgent 21 = .ok (.aload_n 0, 1) := by decide +kernel
theorem d_P_mostUrgent_22 : decode b_P_mostUrgent 22 = .ok (.getfield 29, 3) := by decide +kernel
theorem d_P_mostUrgent_25 : decode b_P_mostUrgent 25 = .ok (.iload_n 3, 1) := by decide +kernel
theorem d_P_mostUrgent_26 : decode b_P_mostUrgent 26 = .ok (.baload, 1) := by decide +kernel
theorem d_P_mostUrgent_27 : decode b_P_mostUrgent 27 = .ok (.iload_n 1, 1) := by decide +kernel
theorem d_P_mostUrgent_28 : decode b_P_mostUrgent 28 = .ok (.if_icmp .gt 24, 3) := by decide +kernel
theorem d_P_mostUrgent_31 : decode b_P_mostUrgent 31 = .ok (.iload_n 2, 1) := by decide +kernel
theorem d_P_mostUrgent_32 : decode b_P_mostUrgent 32 = .ok (.ifCond .lt 18, 3) := by decide +kernel
theorem d_P_mostUrgent_35 : decode b_P_mostUrgent 35 = .ok (.aload_n 0, 1) := by decide +kernel
theorem d_P_mostUrgent_36 : decode b_P_mostUrgent 36 = .ok (.getfield 32, 3) := by decide +kernel
theorem d_P_mostUrgent_39 : decode b_P_mostUrgent 39 = .ok (.iload_n 3, 1) := by decide +kernel
theorem d_P_mostUrgent_40 : decode b_P_mostUrgent 40 = .ok (.baload, 1) := by decide +kernel
theorem d_P_mostUrgent_41 : decode b_P_mostUrgent 41 = .ok (.aload_n 0, 1) := by decide +kernel
theorem d_P_mostUrgent_42 : decode b_P_mostUrgent 42 = .ok (.getfield 32, 3) := by decide +kernel
theorem d_P_mostUrgent_45 : decode b_P_mostUrgent 45 = .ok (.iload_n 2, 1) := by decide +kernel
theorem d_P_mostUrgent_46 : decode b_P_mostUrgent 46 = .ok (.baload, 1) := by decide +kernel
theorem d_P_mostUrgent_47 : decode b_P_mostUrgent 47 = .ok (.if_icmp .ge 5, 3) := by decide +kernel
theorem d_P_mostUrgent_50 : decode b_P_mostUrgent 50 = .ok (.iload_n 3, 1) := by decide +kernel
theorem d_P_mostUrgent_51 : decode b_P_mostUrgent 51 = .ok (.istore_n 2, 1) := by decide +kernel
theorem d_P_mostUrgent_52 : decode b_P_mostUrgent 52 = .ok (.iinc 3 1, 3) := by decide +kernel
theorem d_P_mostUrgent_55 : decode b_P_mostUrgent 55 = .ok (.goto (-51), 3) := by decide +kernel
theorem d_P_mostUrgent_58 : decode b_P_mostUrgent 58 = .ok (.iload_n 2, 1) := by decide +kernel
theorem d_P_mostUrgent_59 : decode b_P_mostUrgent 59 = .ok (.ireturn, 1) := by decide +kernel
end
section
-- DECODE ROWS: printed by gen/gen.py
theorem d_M_init_0 : decode b_M_init 0 = .ok (.aload_n 0, 1) := by decide +kernel
theorem d_M_init_1 : decode b_M_init 1 = .ok (.invokespecial 1, 3) := by decide +kernel
theorem d_M_init_4 : decode b_M_init 4 = .ok (.aload_n 0, 1) := by decide +kernel
theorem d_M_init_5 : decode b_M_init 5 = .ok (.bipush 6, 2) := by decide +kernel
theorem d_M_init_7 : decode b_M_init 7 = .ok (.newarray .boolean, 2) := by decide +kernel
theorem d_M_init_9 : decode b_M_init 9 = .ok (.putfield 7, 3) := by decide +kernel
theorem d_M_init_12 : decode b_M_init 12 = .ok (.aload_n 0, 1) := by decide +kernel
theorem d_M_init_13 : decode b_M_init 13 = .ok (.bipush 6, 2) := by decide +kernel
theorem d_M_init_15 : decode b_M_init 15 = .ok (.newarray .int, 2) := by decide +kernel
theorem d_M_init_17 : decode b_M_init 17 = .ok (.putfield 13, 3) := by decide +kernel
theorem d_M_init_20 : decode b_M_init 20 = .ok (.aload_n 0, 1) := by decide +kernel
theorem d_M_init_21 : decode b_M_init 21 = .ok (.bipush 6, 2) := by decide +kernel
theorem d_M_init_23 : decode b_M_init 23 = .ok (.newarray .int, 2) := by decide +kernel
theorem d_M_init_25 : decode b_M_init 25 = .ok (.putfield 17, 3) := by decide +kernel
theorem d_M_init_28 : decode b_M_init 28 = .ok (.aload_n 0, 1) := by decide +kernel
theorem d_M_init_29 : decode b_M_init 29 = .ok (.iconst 4, 1) := by decide +kernel
theorem d_M_init_30 : decode b_M_init 30 = .ok (.newarray .boolean, 2) := by decide +kernel
theorem d_M_init_32 : decode b_M_init 32 = .ok (.putfield 20, 3) := by decide +kernel
theorem d_M_init_35 : decode b_M_init 35 = .ok (.aload_n 0, 1) := by decide +kernel
theorem d_M_init_36 : decode b_M_init 36 = .ok (.iconst 4, 1) := by decide +kernel
theorem d_M_init_37 : decode b_M_init 37 = .ok (.newarray .int, 2) := by decide +kernel
theorem d_M_init_39 : decode b_M_init 39 = .ok (.putfield 23, 3) := by decide +kernel
theorem d_M_init_42 : decode b_M_init 42 = .ok (.aload_n 0, 1) := by decide +kernel
theorem d_M_init_43 : decode b_M_init 43 = .ok (.iconst 4, 1) := by decide +kernel
theorem d_M_init_44 : decode b_M_init 44 = .ok (.newarray .int, 2) := by decide +kernel
theorem d_M_init_46 : decode b_M_init 46 = .ok (.putfield 26, 3) := by decide +kernel
theorem d_M_init_49 : decode b_M_init 49 = .ok (.aload_n 0, 1) := by decide +kernel
theorem d_M_init_50 : decode b_M_init 50 = .ok (.bipush 7, 2) := by decide +kernel
theorem d_M_init_52 : decode b_M_init 52 = .ok (.newarray .int, 2) := by decide +kernel
theorem d_M_init_54 : decode b_M_init 54 = .ok (.putfield 29, 3) := by decide +kernel
theorem d_M_init_57 : decode b_M_init 57 = .ok (.aload_n 0, 1) := by decide +kernel
theorem d_M_init_58 : decode b_M_init 58 = .ok (.bipush 7, 2) := by decide +kernel
theorem d_M_init_60 : decode b_M_init 60 = .ok (.newarray .int, 2) := by decide +kernel
theorem d_M_init_62 : decode b_M_init 62 = .ok (.putfield 32, 3) := by decide +kernel
theorem d_M_init_65 : decode b_M_init 65 = .ok (.aload_n 0, 1) := by decide +kernel
theorem d_M_init_66 : decode b_M_init 66 = .ok (.sipush 5248, 3) := by decide +kernel
theorem d_M_init_69 : decode b_M_init 69 = .ok (.newarray .boolean, 2) := by decide +kernel
theorem d_M_init_71 : decode b_M_init 71 = .ok (.putfield 35, 3) := by decide +kernel
theorem d_M_init_74 : decode b_M_init 74 = .ok (.aload_n 0, 1) := by decide +kernel
theorem d_M_init_75 : decode b_M_init 75 = .ok (.iload_n 1, 1) := by decide +kernel
theorem d_M_init_76 : decode b_M_init 76 = .ok (.iconst 1, 1) := by decide +kernel
theorem d_M_init_77 : decode b_M_init 77 = .ok (.if_icmp .ge 7, 3) := by decide +kernel
theorem d_M_init_80 : decode b_M_init 80 = .ok (.iconst 1, 1) := by decide +kernel
theorem d_M_init_81 : decode b_M_init 81 = .ok (.goto 15, 3) := by decide +kernel
theorem d_M_init_84 : decode b_M_init 84 = .ok (.iload_n 1, 1) := by decide +kernel
theorem d_M_init_85 : decode b_M_init 85 = .ok (.bipush 6, 2) := by decide +kernel
theorem d_M_init_87 : decode b_M_init 87 = .ok (.if_icmp .le 8, 3) := by decide +kernel
theorem d_M_init_90 : decode b_M_init 90 = .ok (.bipush 6, 2) := by decide +kernel
theorem d_M_init_92 : decode b_M_init 92 = .ok (.goto 4, 3) := by decide +kernel
theorem d_M_init_95 : decode b_M_init 95 = .ok (.iload_n 1, 1) := by decide +kernel
theorem d_M_init_96 : decode b_M_init 96 = .ok (.putfield 38, 3) := by decide +kernel
theorem d_M_init_99 : decode b_M_init 99 = .ok (.aload_n 0, 1) := by decide +kernel
theorem d_M_init_100 : decode b_M_init 100 = .ok (.iload_n 2, 1) := by decide +kernel
theorem d_M_init_101 : decode b_M_init 101 = .ok (.iconst 1, 1) := by decide +kernel
theorem d_M_init_102 : decode b_M_init 102 = .ok (.if_icmp .ge 7, 3) := by decide +kernel
theorem d_M_init_105 : decode b_M_init 105 = .ok (.iconst 1, 1) := by decide +kernel
theorem d_M_init_106 : decode b_M_init 106 = .ok (.goto 15, 3) := by decide +kernel
theorem d_M_init_109 : decode b_M_init 109 = .ok (.iload_n 2, 1) := by decide +kernel
theorem d_M_init_110 : decode b_M_init 110 = .ok (.bipush 6, 2) := by decide +kernel
theorem d_M_init_112 : decode b_M_init 112 = .ok (.if_icmp .le 8, 3) := by decide +kernel
theorem d_M_init_115 : decode b_M_init 115 = .ok (.bipush 6, 2) := by decide +kernel
theorem d_M_init_117 : decode b_M_init 117 = .ok (.goto 4, 3) := by decide +kernel
theorem d_M_init_120 : decode b_M_init 120 = .ok (.iload_n 2, 1) := by decide +kernel
theorem d_M_init_121 : decode b_M_init 121 = .ok (.putfield 42, 3) := by decide +kernel
theorem d_M_init_124 : decode b_M_init 124 = .ok (.return_, 1) := by decide +kernel
theorem d_M_there_0 : decode b_M_there 0 = .ok (.iload_n 1, 1) := by decide +kernel
theorem d_M_there_1 : decode b_M_there 1 = .ok (.ifCond .lt 22, 3) := by decide +kernel
theorem d_M_there_4 : decode b_M_there 4 = .ok (.iload_n 1, 1) := by decide +kernel
theorem d_M_there_5 : decode b_M_there 5 = .ok (.bipush 6, 2) := by decide +kernel
theorem d_M_there_7 : decode b_M_there 7 = .ok (.if_icmp .ge 16, 3) := by decide +kernel
theorem d_M_there_10 : decode b_M_there 10 = .ok (.aload_n 0, 1) := by decide +kernel
theorem d_M_there_11 : decode b_M_there 11 = .ok (.getfield 7, 3) := by decide +kernel
theorem d_M_there_14 : decode b_M_there 14 = .ok (.iload_n 1, 1) := by decide +kernel
theorem d_M_there_15 : decode b_M_there 15 = .ok (.baload, 1) := by decide +kernel
theorem d_M_there_16 : decode b_M_there 16 = .ok (.ifCond .eq 7, 3) := by decide +kernel
theorem d_M_there_19 : decode b_M_there 19 = .ok (.iconst 1, 1) := by decide +kernel
theorem d_M_there_20 : decode b_M_there 20 = .ok (.goto 4, 3) := by decide +kernel
theorem d_M_there_23 : decode b_M_there 23 = .ok (.iconst 0, 1) := by decide +kernel
theorem d_M_there_24 : decode b_M_there 24 = .ok (.ireturn, 1) := by decide +kernel
theorem d_M_badWindow_0 : decode b_M_badWindow 0 = .ok (.iload_n 1, 1) := by decide +kernel
theorem d_M_badWindow_1 : decode b_M_badWindow 1 = .ok (.ifCond .lt 29, 3) := by decide +kernel
theorem d_M_badWindow_4 : decode b_M_badWindow 4 = .ok (.iload_n 2, 1) := by decide +kernel
theorem d_M_badWindow_5 : decode b_M_badWindow 5 = .ok (.bipush 40, 2) := by decide +kernel
theorem d_M_badWindow_7 : decode b_M_badWindow 7 = .ok (.if_icmp .gt 23, 3) := by decide +kernel
theorem d_M_badWindow_10 : decode b_M_badWindow 10 = .ok (.iload_n 1, 1) := by decide +kernel
theorem d_M_badWindow_11 : decode b_M_badWindow 11 = .ok (.bipush 40, 2) := by decide +kernel
theorem d_M_badWindow_13 : decode b_M_badWindow 13 = .ok (.if_icmp .gt 17, 3) := by decide +kernel
theorem d_M_badWindow_16 : decode b_M_badWindow 16 = .ok (.iload_n 2, 1) := by decide +kernel
theorem d_M_badWindow_17 : decode b_M_badWindow 17 = .ok (.ifCond .lt 13, 3) := by decide +kernel
theorem d_M_badWindow_20 : decode b_M_badWindow 20 = .ok (.iload_n 2, 1) := by decide +kernel
theorem d_M_badWindow_21 : decode b_M_badWindow 21 = .ok (.iload_n 1, 1) := by decide +kernel
theorem d_M_badWindow_22 : decode b_M_badWindow 22 = .ok (.isub, 1) := by decide +kernel
theorem d_M_badWindow_23 : decode b_M_badWindow 23 = .ok (.aload_n 0, 1) := by decide +kernel
theorem d_M_badWindow_24 : decode b_M_badWindow 24 = .ok (.getfield 38, 3) := by decide +kernel
theorem d_M_badWindow_27 : decode b_M_badWindow 27 = .ok (.if_icmp .ge 7, 3) := by decide +kernel
theorem d_M_badWindow_30 : decode b_M_badWindow 30 = .ok (.iconst 1, 1) := by decide +kernel
theorem d_M_badWindow_31 : decode b_M_badWindow 31 = .ok (.goto 4, 3) := by decide +kernel
theorem d_M_badWindow_34 : decode b_M_badWindow 34 = .ok (.iconst 0, 1) := by decide +kernel
theorem d_M_badWindow_35 : decode b_M_badWindow 35 = .ok (.ireturn, 1) := by decide +kernel
theorem d_M_ask_0 : decode b_M_ask 0 = .ok (.aload_n 0, 1) := by decide +kernel
theorem d_M_ask_1 : decode b_M_ask 1 = .ok (.iconst 0, 1) := by decide +kernel
theorem d_M_ask_2 : decode b_M_ask 2 = .ok (.putfield 45, 3) := by decide +kernel
theorem d_M_ask_5 : decode b_M_ask 5 = .ok (.iconst 0, 1) := by decide +kernel
theorem d_M_ask_6 : decode b_M_ask 6 = .ok (.istore_n 3, 1) := by decide +kernel
theorem d_M_ask_7 : decode b_M_ask 7 = .ok (.iload_n 3, 1) := by decide +kernel
theorem d_M_ask_8 : decode b_M_ask 8 = .ok (.bipush 6, 2) := by decide +kernel
theorem d_M_ask_10 : decode b_M_ask 10 = .ok (.if_icmp .ge 82, 3) := by decide +kernel
theorem d_M_ask_13 : decode b_M_ask 13 = .ok (.aload_n 0, 1) := by decide +kernel
theorem d_M_ask_14 : decode b_M_ask 14 = .ok (.getfield 7, 3) := by decide +kernel
theorem d_M_ask_17 : decode b_M_ask 17 = .ok (.iload_n 3, 1) := by decide +kernel
theorem d_M_ask_18 : decode b_M_ask 18 = .ok (.baload, 1) := by decide +kernel
theorem d_M_ask_19 : decode b_M_ask 19 = .ok (.ifCond .eq 67, 3) := by decide +kernel
theorem d_M_ask_22 : decode b_M_ask 22 = .ok (.aload_n 0, 1) := by decide +kernel
theorem d_M_ask_23 : decode b_M_ask 23 = .ok (.aload_n 0, 1) := by decide +kernel
theorem d_M_ask_24 : decode b_M_ask 24 = .ok (.getfield 45, 3) := by decide +kernel
theorem d_M_ask_27 : decode b_M_ask 27 = .ok (.iconst 1, 1) := by decide +kernel
theorem d_M_ask_28 : decode b_M_ask 28 = .ok (.iload_n 3, 1) := by decide +kernel
theorem d_M_ask_29 : decode b_M_ask 29 = .ok (.ishl, 1) := by decide +kernel
theorem d_M_ask_30 : decode b_M_ask 30 = .ok (.ior, 1) := by decide +kernel
theorem d_M_ask_31 : decode b_M_ask 31 = .ok (.putfield 45, 3) := by decide +kernel
theorem d_M_ask_34 : decode b_M_ask 34 = .ok (.aload_n 0, 1) := by decide +kernel
theorem d_M_ask_35 : decode b_M_ask 35 = .ok (.getfield 29, 3) := by decide +kernel
theorem d_M_ask_38 : decode b_M_ask 38 = .ok (.iload_n 3, 1) := by decide +kernel
theorem d_M_ask_39 : decode b_M_ask 39 = .ok (.aload_n 0, 1) := by decide +kernel
theorem d_M_ask_40 : decode b_M_ask 40 = .ok (.getfield 13, 3) := by decide +kernel
theorem d_M_ask_43 : decode b_M_ask 43 = .ok (.iload_n 3, 1) := by decide +kernel
theorem d_M_ask_44 : decode b_M_ask 44 = .ok (.iaload, 1) := by decide +kernel
theorem d_M_ask_45 : decode b_M_ask 45 = .ok (.iload_n 1, 1) := by decide +kernel
theorem d_M_ask_46 : decode b_M_ask 46 = .ok (.if_icmp .le 12, 3) := by decide +kernel
theorem d_M_ask_49 : decode b_M_ask 49 = .ok (.aload_n 0, 1) := by decide +kernel
theorem d_M_ask_50 : decode b_M_ask 50 = .ok (.getfield 13, 3) := by decide +kernel
theorem d_M_ask_53 : decode b_M_ask 53 = .ok (.iload_n 3, 1) := by decide +kernel
theorem d_M_ask_54 : decode b_M_ask 54 = .ok (.iaload, 1) := by decide +kernel
theorem d_M_ask_55 : decode b_M_ask 55 = .ok (.goto 4, 3) := by decide +kernel
theorem d_M_ask_58 : decode b_M_ask 58 = .ok (.iload_n 1, 1) := by decide +kernel
theorem d_M_ask_59 : decode b_M_ask 59 = .ok (.iastore, 1) := by decide +kernel
theorem d_M_ask_60 : decode b_M_ask 60 = .ok (.aload_n 0, 1) := by decide +kernel
theorem d_M_ask_61 : decode b_M_ask 61 = .ok (.getfield 32, 3) := by decide +kernel
theorem d_M_ask_64 : decode b_M_ask 64 = .ok (.iload_n 3, 1) := by decide +kernel
theorem d_M_ask_65 : decode b_M_ask 65 = .ok (.aload_n 0, 1) := by decide +kernel
theorem d_M_ask_66 : decode b_M_ask 66 = .ok (.getfield 17, 3) := by decide +kernel
theorem d_M_ask_69 : decode b_M_ask 69 = .ok (.iload_n 3, 1) := by decide +kernel
theorem d_M_ask_70 : decode b_M_ask 70 = .ok (.iaload, 1) := by decide +kernel
theorem d_M_ask_71 : decode b_M_ask 71 = .ok (.iload_n 2, 1) := by decide +kernel
theorem d_M_ask_72 : decode b_M_ask 72 = .ok (.if_icmp .ge 12, 3) := by decide +kernel
theorem d_M_ask_75 : decode b_M_ask 75 = .ok (.aload_n 0, 1) := by decide +kernel
theorem d_M_ask_76 : decode b_M_ask 76 = .ok (.getfield 17, 3) := by decide +kernel
theorem d_M_ask_79 : decode b_M_ask 79 = .ok (.iload_n 3, 1) := by decide +kernel
theorem d_M_ask_80 : decode b_M_ask 80 = .ok (.iaload, 1) := by decide +kernel
theorem d_M_ask_81 : decode b_M_ask 81 = .ok (.goto 4, 3) := by decide +kernel
theorem d_M_ask_84 : decode b_M_ask 84 = .ok (.iload_n 2, 1) := by decide +kernel
theorem d_M_ask_85 : decode b_M_ask 85 = .ok (.iastore, 1) := by decide +kernel
theorem d_M_ask_86 : decode b_M_ask 86 = .ok (.iinc 3 1, 3) := by decide +kernel
theorem d_M_ask_89 : decode b_M_ask 89 = .ok (.goto (-82), 3) := by decide +kernel
theorem d_M_ask_92 : decode b_M_ask 92 = .ok (.return_, 1) := by decide +kernel
theorem d_M_window_0 : decode b_M_window 0 = .ok (.aload_n 0, 1) := by decide +kernel
theorem d_M_window_1 : decode b_M_window 1 = .ok (.aload_n 0, 1) := by decide +kernel
theorem d_M_window_2 : decode b_M_window 2 = .ok (.getfield 45, 3) := by decide +kernel
theorem d_M_window_5 : decode b_M_window 5 = .ok (.iconst 1, 1) := by decide +kernel
theorem d_M_window_6 : decode b_M_window 6 = .ok (.iload_n 1, 1) := by decide +kernel
theorem d_M_window_7 : decode b_M_window 7 = .ok (.ishl, 1) := by decide +kernel
theorem d_M_window_8 : decode b_M_window 8 = .ok (.ior, 1) := by decide +kernel
theorem d_M_window_9 : decode b_M_window 9 = .ok (.putfield 45, 3) := by decide +kernel
theorem d_M_window_12 : decode b_M_window 12 = .ok (.aload_n 0, 1) := by decide +kernel
theorem d_M_window_13 : decode b_M_window 13 = .ok (.getfield 29, 3) := by decide +kernel
theorem d_M_window_16 : decode b_M_window 16 = .ok (.iload_n 1, 1) := by decide +kernel
theorem d_M_window_17 : decode b_M_window 17 = .ok (.iload_n 2, 1) := by decide +kernel
theorem d_M_window_18 : decode b_M_window 18 = .ok (.iastore, 1) := by decide +kernel
theorem d_M_window_19 : decode b_M_window 19 = .ok (.aload_n 0, 1) := by decide +kernel
theorem d_M_window_20 : decode b_M_window 20 = .ok (.getfield 32, 3) := by decide +kernel
theorem d_M_window_23 : decode b_M_window 23 = .ok (.iload_n 1, 1) := by decide +kernel
theorem d_M_window_24 : decode b_M_window 24 = .ok (.iload_n 3, 1) := by decide +kernel
theorem d_M_window_25 : decode b_M_window 25 = .ok (.iastore, 1) := by decide +kernel
theorem d_M_window_26 : decode b_M_window 26 = .ok (.return_, 1) := by decide +kernel
theorem d_M_fits_0 : decode b_M_fits 0 = .ok (.iconst 0, 1) := by decide +kernel
theorem d_M_fits_1 : decode b_M_fits 1 = .ok (.istore_n 1, 1) := by decide +kernel
theorem d_M_fits_2 : decode b_M_fits 2 = .ok (.iload_n 1, 1) := by decide +kernel
theorem d_M_fits_3 : decode b_M_fits 3 = .ok (.bipush 40, 2) := by decide +kernel
theorem d_M_fits_5 : decode b_M_fits 5 = .ok (.if_icmp .gt 45, 3) := by decide +kernel
theorem d_M_fits_8 : decode b_M_fits 8 = .ok (.iconst 0, 1) := by decide +kernel
theorem d_M_fits_9 : decode b_M_fits 9 = .ok (.istore_n 2, 1) := by decide +kernel
theorem d_M_fits_10 : decode b_M_fits 10 = .ok (.iload_n 2, 1) := by decide +kernel
theorem d_M_fits_11 : decode b_M_fits 11 = .ok (.aload_n 0, 1) := by decide +kernel
theorem d_M_fits_12 : decode b_M_fits 12 = .ok (.getfield 45, 3) := by decide +kernel
theorem d_M_fits_15 : decode b_M_fits 15 = .ok (.if_icmp .gt 29, 3) := by decide +kernel
theorem d_M_fits_18 : decode b_M_fits 18 = .ok (.iload_n 2, 1) := by decide +kernel
theorem d_M_fits_19 : decode b_M_fits 19 = .ok (.sipush 128, 3) := by decide +kernel
theorem d_M_fits_22 : decode b_M_fits 22 = .ok (.if_icmp .ge 22, 3) := by decide +kernel
theorem d_M_fits_25 : decode b_M_fits 25 = .ok (.aload_n 0, 1) := by decide +kernel
theorem d_M_fits_26 : decode b_M_fits 26 = .ok (.getfield 35, 3) := by decide +kernel
theorem d_M_fits_29 : decode b_M_fits 29 = .ok (.iload_n 1, 1) := by decide +kernel
theorem d_M_fits_30 : decode b_M_fits 30 = .ok (.sipush 128, 3) := by decide +kernel
theorem d_M_fits_33 : decode b_M_fits 33 = .ok (.imul, 1) := by decide +kernel
theorem d_M_fits_34 : decode b_M_fits 34 = .ok (.iload_n 2, 1) := by decide +kernel
theorem d_M_fits_35 : decode b_M_fits 35 = .ok (.iadd, 1) := by decide +kernel
theorem d_M_fits_36 : decode b_M_fits 36 = .ok (.iconst 0, 1) := by decide +kernel
theorem d_M_fits_37 : decode b_M_fits 37 = .ok (.bastore, 1) := by decide +kernel
theorem d_M_fits_38 : decode b_M_fits 38 = .ok (.iinc 2 1, 3) := by decide +kernel
theorem d_M_fits_41 : decode b_M_fits 41 = .ok (.goto (-31), 3) := by decide +kernel
theorem d_M_fits_44 : decode b_M_fits 44 = .ok (.iinc 1 1, 3) := by decide +kernel
theorem d_M_fits_47 : decode b_M_fits 47 = .ok (.goto (-45), 3) := by decide +kernel
theorem d_M_fits_50 : decode b_M_fits 50 = .ok (.aload_n 0, 1) := by decide +kernel
theorem d_M_fits_51 : decode b_M_fits 51 = .ok (.getfield 35, 3) := by decide +kernel
theorem d_M_fits_54 : decode b_M_fits 54 = .ok (.iconst 0, 1) := by decide +kernel
theorem d_M_fits_55 : decode b_M_fits 55 = .ok (.iconst 1, 1) := by decide +kernel
theorem d_M_fits_56 : decode b_M_fits 56 = .ok (.bastore, 1) := by decide +kernel
theorem d_M_fits_57 : decode b_M_fits 57 = .ok (.iconst 0, 1) := by decide +kernel
theorem d_M_fits_58 : decode b_M_fits 58 = .ok (.istore_n 1, 1) := by decide +kernel
theorem d_M_fits_59 : decode b_M_fits 59 = .ok (.iload_n 1, 1) := by decide +kernel
theorem d_M_fits_60 : decode b_M_fits 60 = .ok (.bipush 40, 2) := by decide +kernel
theorem d_M_fits_62 : decode b_M_fits 62 = .ok (.if_icmp .gt 53, 3) := by decide +kernel
theorem d_M_fits_65 : decode b_M_fits 65 = .ok (.iconst 0, 1) := by decide +kernel
theorem d_M_fits_66 : decode b_M_fits 66 = .ok (.istore_n 2, 1) := by decide +kernel
theorem d_M_fits_67 : decode b_M_fits 67 = .ok (.iload_n 2, 1) := by decide +kernel
theorem d_M_fits_68 : decode b_M_fits 68 = .ok (.aload_n 0, 1) := by decide +kernel
theorem d_M_fits_69 : decode b_M_fits 69 = .ok (.getfield 45, 3) := by decide +kernel
theorem d_M_fits_72 : decode b_M_fits 72 = .ok (.if_icmp .gt 37, 3) := by decide +kernel
theorem d_M_fits_75 : decode b_M_fits 75 = .ok (.iload_n 2, 1) := by decide +kernel
theorem d_M_fits_76 : decode b_M_fits 76 = .ok (.sipush 128, 3) := by decide +kernel
theorem d_M_fits_79 : decode b_M_fits 79 = .ok (.if_icmp .ge 30, 3) := by decide +kernel
theorem d_M_fits_82 : decode b_M_fits 82 = .ok (.aload_n 0, 1) := by decide +kernel
theorem d_M_fits_83 : decode b_M_fits 83 = .ok (.getfield 35, 3) := by decide +kernel
theorem d_M_fits_86 : decode b_M_fits 86 = .ok (.iload_n 1, 1) := by decide +kernel
theorem d_M_fits_87 : decode b_M_fits 87 = .ok (.sipush 128, 3) := by decide +kernel
theorem d_M_fits_90 : decode b_M_fits 90 = .ok (.imul, 1) := by decide +kernel
theorem d_M_fits_91 : decode b_M_fits 91 = .ok (.iload_n 2, 1) := by decide +kernel
theorem d_M_fits_92 : decode b_M_fits 92 = .ok (.iadd, 1) := by decide +kernel
theorem d_M_fits_93 : decode b_M_fits 93 = .ok (.baload, 1) := by decide +kernel
theorem d_M_fits_94 : decode b_M_fits 94 = .ok (.ifCond .eq 9, 3) := by decide +kernel
theorem d_M_fits_97 : decode b_M_fits 97 = .ok (.aload_n 0, 1) := by decide +kernel
theorem d_M_fits_98 : decode b_M_fits 98 = .ok (.iload_n 1, 1) := by decide +kernel
theorem d_M_fits_99 : decode b_M_fits 99 = .ok (.iload_n 2, 1) := by decide +kernel
theorem d_M_fits_100 : decode b_M_fits 100 = .ok (.invokevirtual 48, 3) := by decide +kernel
theorem d_M_fits_103 : decode b_M_fits 103 = .ok (.iinc 2 1, 3) := by decide +kernel
theorem d_M_fits_106 : decode b_M_fits 106 = .ok (.goto (-39), 3) := by decide +kernel
theorem d_M_fits_109 : decode b_M_fits 109 = .ok (.iinc 1 1, 3) := by decide +kernel
theorem d_M_fits_112 : decode b_M_fits 112 = .ok (.goto (-53), 3) := by decide +kernel
theorem d_M_fits_115 : decode b_M_fits 115 = .ok (.aload_n 0, 1) := by decide +kernel
theorem d_M_fits_116 : decode b_M_fits 116 = .ok (.getfield 35, 3) := by decide +kernel
theorem d_M_fits_119 : decode b_M_fits 119 = .ok (.sipush 5120, 3) := by decide +kernel
theorem d_M_fits_122 : decode b_M_fits 122 = .ok (.aload_n 0, 1) := by decide +kernel
theorem d_M_fits_123 : decode b_M_fits 123 = .ok (.getfield 45, 3) := by decide +kernel
theorem d_M_fits_126 : decode b_M_fits 126 = .ok (.bipush 127, 2) := by decide +kernel
theorem d_M_fits_128 : decode b_M_fits 128 = .ok (.iand, 1) := by decide +kernel
theorem d_M_fits_129 : decode b_M_fits 129 = .ok (.iadd, 1) := by decide +kernel
theorem d_M_fits_130 : decode b_M_fits 130 = .ok (.baload, 1) := by decide +kernel
theorem d_M_fits_131 : decode b_M_fits 131 = .ok (.ireturn, 1) := by decide +kernel
theorem d_M_extend_0 : decode b_M_extend 0 = .ok (.iload_n 1, 1) := by decide +kernel
theorem d_M_extend_1 : decode b_M_extend 1 = .ok (.bipush 40, 2) := by decide +kernel
theorem d_M_extend_3 : decode b_M_extend 3 = .ok (.if_icmp .ge 18, 3) := by decide +kernel
theorem d_M_extend_6 : decode b_M_extend 6 = .ok (.aload_n 0, 1) := by decide +kernel
theorem d_M_extend_7 : decode b_M_extend 7 = .ok (.getfield 35, 3) := by decide +kernel
theorem d_M_extend_10 : decode b_M_extend 10 = .ok (.iload_n 1, 1) := by decide +kernel
theorem d_M_extend_11 : decode b_M_extend 11 = .ok (.iconst 1, 1) := by decide +kernel
theorem d_M_extend_12 : decode b_M_extend 12 = .ok (.iadd, 1) := by decide +kernel
theorem d_M_extend_13 : decode b_M_extend 13 = .ok (.sipush 128, 3) := by decide +kernel
theorem d_M_extend_16 : decode b_M_extend 16 = .ok (.imul, 1) := by decide +kernel
theorem d_M_extend_17 : decode b_M_extend 17 = .ok (.iload_n 2, 1) := by decide +kernel
theorem d_M_extend_18 : decode b_M_extend 18 = .ok (.iadd, 1) := by decide +kernel
theorem d_M_extend_19 : decode b_M_extend 19 = .ok (.iconst 1, 1) := by decide +kernel
theorem d_M_extend_20 : decode b_M_extend 20 = .ok (.bastore, 1) := by decide +kernel
theorem d_M_extend_21 : decode b_M_extend 21 = .ok (.iload_n 1, 1) := by decide +kernel
theorem d_M_extend_22 : decode b_M_extend 22 = .ok (.aload_n 0, 1) := by decide +kernel
theorem d_M_extend_23 : decode b_M_extend 23 = .ok (.getfield 38, 3) := by decide +kernel
theorem d_M_extend_26 : decode b_M_extend 26 = .ok (.iadd, 1) := by decide +kernel
theorem d_M_extend_27 : decode b_M_extend 27 = .ok (.bipush 40, 2) := by decide +kernel
theorem d_M_extend_29 : decode b_M_extend 29 = .ok (.if_icmp .gt 11, 3) := by decide +kernel
theorem d_M_extend_32 : decode b_M_extend 32 = .ok (.aload_n 0, 1) := by decide +kernel
theorem d_M_extend_33 : decode b_M_extend 33 = .ok (.iload_n 1, 1) := by decide +kernel
theorem d_M_extend_34 : decode b_M_extend 34 = .ok (.invokevirtual 52, 3) := by decide +kernel
theorem d_M_extend_37 : decode b_M_extend 37 = .ok (.ifCond .ne 4, 3) := by decide +kernel
theorem d_M_extend_40 : decode b_M_extend 40 = .ok (.return_, 1) := by decide +kernel
theorem d_M_extend_41 : decode b_M_extend 41 = .ok (.iconst 0, 1) := by decide +kernel
theorem d_M_extend_42 : decode b_M_extend 42 = .ok (.istore_n 3, 1) := by decide +kernel
theorem d_M_extend_43 : decode b_M_extend 43 = .ok (.iload_n 3, 1) := by decide +kernel
theorem d_M_extend_44 : decode b_M_extend 44 = .ok (.bipush 7, 2) := by decide +kernel
theorem d_M_extend_46 : decode b_M_extend 46 = .ok (.if_icmp .ge 88, 3) := by decide +kernel
theorem d_M_extend_49 : decode b_M_extend 49 = .ok (.aload_n 0, 1) := by decide +kernel
theorem d_M_extend_50 : decode b_M_extend 50 = .ok (.getfield 45, 3) := by decide +kernel
theorem d_M_extend_53 : decode b_M_extend 53 = .ok (.iload_n 3, 1) := by decide +kernel
theorem d_M_extend_54 : decode b_M_extend 54 = .ok (.ishr, 1) := by decide +kernel
theorem d_M_extend_55 : decode b_M_extend 55 = .ok (.iconst 1, 1) := by decide +kernel
theorem d_M_extend_56 : decode b_M_extend 56 = .ok (.iand, 1) := by decide +kernel
theorem d_M_extend_57 : decode b_M_extend 57 = .ok (.iconst 1, 1) := by decide +kernel
theorem d_M_extend_58 : decode b_M_extend 58 = .ok (.if_icmp .ne 15, 3) := by decide +kernel
theorem d_M_extend_61 : decode b_M_extend 61 = .ok (.iload_n 2, 1) := by decide +kernel
theorem d_M_extend_62 : decode b_M_extend 62 = .ok (.iload_n 3, 1) := by decide +kernel
theorem d_M_extend_63 : decode b_M_extend 63 = .ok (.ishr, 1) := by decide +kernel
theorem d_M_extend_64 : decode b_M_extend 64 = .ok (.iconst 1, 1) := by decide +kernel
theorem d_M_extend_65 : decode b_M_extend 65 = .ok (.iand, 1) := by decide +kernel
theorem d_M_extend_66 : decode b_M_extend 66 = .ok (.ifCond .ne 7, 3) := by decide +kernel
theorem d_M_extend_69 : decode b_M_extend 69 = .ok (.iconst 1, 1) := by decide +kernel
theorem d_M_extend_70 : decode b_M_extend 70 = .ok (.goto 4, 3) := by decide +kernel
theorem d_M_extend_73 : decode b_M_extend 73 = .ok (.iconst 0, 1) := by decide +kernel
theorem d_M_extend_74 : decode b_M_extend 74 = .ok (.istore 4, 2) := by decide +kernel
theorem d_M_extend_76 : decode b_M_extend 76 = .ok (.iload 4, 2) := by decide +kernel
theorem d_M_extend_78 : decode b_M_extend 78 = .ok (.ifCond .eq 50, 3) := by decide +kernel
theorem d_M_extend_81 : decode b_M_extend 81 = .ok (.aload_n 0, 1) := by decide +kernel
theorem d_M_extend_82 : decode b_M_extend 82 = .ok (.getfield 29, 3) := by decide +kernel
theorem d_M_extend_85 : decode b_M_extend 85 = .ok (.iload_n 3, 1) := by decide +kernel
theorem d_M_extend_86 : decode b_M_extend 86 = .ok (.iaload, 1) := by decide +kernel
theorem d_M_extend_87 : decode b_M_extend 87 = .ok (.iload_n 1, 1) := by decide +kernel
theorem d_M_extend_88 : decode b_M_extend 88 = .ok (.if_icmp .gt 40, 3) := by decide +kernel
theorem d_M_extend_91 : decode b_M_extend 91 = .ok (.iload_n 1, 1) := by decide +kernel
theorem d_M_extend_92 : decode b_M_extend 92 = .ok (.aload_n 0, 1) := by decide +kernel
theorem d_M_extend_93 : decode b_M_extend 93 = .ok (.getfield 38, 3) := by decide +kernel
theorem d_M_extend_96 : decode b_M_extend 96 = .ok (.iadd, 1) := by decide +kernel
theorem d_M_extend_97 : decode b_M_extend 97 = .ok (.aload_n 0, 1) := by decide +kernel
theorem d_M_extend_98 : decode b_M_extend 98 = .ok (.getfield 32, 3) := by decide +kernel
theorem d_M_extend_101 : decode b_M_extend 101 = .ok (.iload_n 3, 1) := by decide +kernel
theorem d_M_extend_102 : decode b_M_extend 102 = .ok (.iaload, 1) := by decide +kernel
theorem d_M_extend_103 : decode b_M_extend 103 = .ok (.if_icmp .gt 25, 3) := by decide +kernel
theorem d_M_extend_106 : decode b_M_extend 106 = .ok (.aload_n 0, 1) := by decide +kernel
theorem d_M_extend_107 : decode b_M_extend 107 = .ok (.getfield 35, 3) := by decide +kernel
theorem d_M_extend_110 : decode b_M_extend 110 = .ok (.iload_n 1, 1) := by decide +kernel
theorem d_M_extend_111 : decode b_M_extend 111 = .ok (.aload_n 0, 1) := by decide +kernel
theorem d_M_extend_112 : decode b_M_extend 112 = .ok (.getfield 38, 3) := by decide +kernel
theorem d_M_extend_115 : decode b_M_extend 115 = .ok (.iadd, 1) := by decide +kernel
theorem d_M_extend_116 : decode b_M_extend 116 = .ok (.sipush 128, 3) := by decide +kernel
theorem d_M_extend_119 : decode b_M_extend 119 = .ok (.imul, 1) := by decide +kernel
theorem d_M_extend_120 : decode b_M_extend 120 = .ok (.iload_n 2, 1) := by decide +kernel
theorem d_M_extend_121 : decode b_M_extend 121 = .ok (.iconst 1, 1) := by decide +kernel
theorem d_M_extend_122 : decode b_M_extend 122 = .ok (.iload_n 3, 1) := by decide +kernel
theorem d_M_extend_123 : decode b_M_extend 123 = .ok (.ishl, 1) := by decide +kernel
theorem d_M_extend_124 : decode b_M_extend 124 = .ok (.ior, 1) := by decide +kernel
theorem d_M_extend_125 : decode b_M_extend 125 = .ok (.iadd, 1) := by decide +kernel
theorem d_M_extend_126 : decode b_M_extend 126 = .ok (.iconst 1, 1) := by decide +kernel
theorem d_M_extend_127 : decode b_M_extend 127 = .ok (.bastore, 1) := by decide +kernel
theorem d_M_extend_128 : decode b_M_extend 128 = .ok (.iinc 3 1, 3) := by decide +kernel
theorem d_M_extend_131 : decode b_M_extend 131 = .ok (.goto (-88), 3) := by decide +kernel
theorem d_M_extend_134 : decode b_M_extend 134 = .ok (.return_, 1) := by decide +kernel
theorem d_M_clear_0 : decode b_M_clear 0 = .ok (.iconst 1, 1) := by decide +kernel
theorem d_M_clear_1 : decode b_M_clear 1 = .ok (.istore_n 2, 1) := by decide +kernel
theorem d_M_clear_2 : decode b_M_clear 2 = .ok (.iconst 0, 1) := by decide +kernel
theorem d_M_clear_3 : decode b_M_clear 3 = .ok (.istore_n 3, 1) := by decide +kernel
theorem d_M_clear_4 : decode b_M_clear 4 = .ok (.iload_n 3, 1) := by decide +kernel
theorem d_M_clear_5 : decode b_M_clear 5 = .ok (.iconst 4, 1) := by decide +kernel
theorem d_M_clear_6 : decode b_M_clear 6 = .ok (.if_icmp .ge 45, 3) := by decide +kernel
theorem d_M_clear_9 : decode b_M_clear 9 = .ok (.aload_n 0, 1) := by decide +kernel
theorem d_M_clear_10 : decode b_M_clear 10 = .ok (.getfield 20, 3) := by decide +kernel
theorem d_M_clear_13 : decode b_M_clear 13 = .ok (.iload_n 3, 1) := by decide +kernel
theorem d_M_clear_14 : decode b_M_clear 14 = .ok (.baload, 1) := by decide +kernel
theorem d_M_clear_15 : decode b_M_clear 15 = .ok (.ifCond .eq 30, 3) := by decide +kernel
theorem d_M_clear_18 : decode b_M_clear 18 = .ok (.aload_n 0, 1) := by decide +kernel
theorem d_M_clear_19 : decode b_M_clear 19 = .ok (.getfield 23, 3) := by decide +kernel
theorem d_M_clear_22 : decode b_M_clear 22 = .ok (.iload_n 3, 1) := by decide +kernel
theorem d_M_clear_23 : decode b_M_clear 23 = .ok (.iaload, 1) := by decide +kernel
theorem d_M_clear_24 : decode b_M_clear 24 = .ok (.iload_n 1, 1) := by decide +kernel
theorem d_M_clear_25 : decode b_M_clear 25 = .ok (.aload_n 0, 1) := by decide +kernel
theorem d_M_clear_26 : decode b_M_clear 26 = .ok (.getfield 38, 3) := by decide +kernel
theorem d_M_clear_29 : decode b_M_clear 29 = .ok (.iadd, 1) := by decide +kernel
theorem d_M_clear_30 : decode b_M_clear 30 = .ok (.if_icmp .ge 15, 3) := by decide +kernel
theorem d_M_clear_33 : decode b_M_clear 33 = .ok (.iload_n 1, 1) := by decide +kernel
theorem d_M_clear_34 : decode b_M_clear 34 = .ok (.aload_n 0, 1) := by decide +kernel
theorem d_M_clear_35 : decode b_M_clear 35 = .ok (.getfield 26, 3) := by decide +kernel
theorem d_M_clear_38 : decode b_M_clear 38 = .ok (.iload_n 3, 1) := by decide +kernel
theorem d_M_clear_39 : decode b_M_clear 39 = .ok (.iaload, 1) := by decide +kernel
theorem d_M_clear_40 : decode b_M_clear 40 = .ok (.if_icmp .ge 5, 3) := by decide +kernel
theorem d_M_clear_43 : decode b_M_clear 43 = .ok (.iconst 0, 1) := by decide +kernel
theorem d_M_clear_44 : decode b_M_clear 44 = .ok (.istore_n 2, 1) := by decide +kernel
theorem d_M_clear_45 : decode b_M_clear 45 = .ok (.iinc 3 1, 3) := by decide +kernel
theorem d_M_clear_48 : decode b_M_clear 48 = .ok (.goto (-44), 3) := by decide +kernel
theorem d_M_clear_51 : decode b_M_clear 51 = .ok (.iload_n 2, 1) := by decide +kernel
theorem d_M_clear_52 : decode b_M_clear 52 = .ok (.ireturn, 1) := by decide +kernel
theorem d_M_leastFree_0 : decode b_M_leastFree 0 = .ok (.bipush 6, 2) := by decide +kernel
theorem d_M_leastFree_2 : decode b_M_leastFree 2 = .ok (.istore_n 1, 1) := by decide +kernel
theorem d_M_leastFree_3 : decode b_M_leastFree 3 = .ok (.iconst 0, 1) := by decide +kernel
theorem d_M_leastFree_4 : decode b_M_leastFree 4 = .ok (.istore_n 2, 1) := by decide +kernel
theorem d_M_leastFree_5 : decode b_M_leastFree 5 = .ok (.iconst 5, 1) := by decide +kernel
theorem d_M_leastFree_6 : decode b_M_leastFree 6 = .ok (.istore_n 3, 1) := by decide +kernel
theorem d_M_leastFree_7 : decode b_M_leastFree 7 = .ok (.iload_n 3, 1) := by decide +kernel
theorem d_M_leastFree_8 : decode b_M_leastFree 8 = .ok (.ifCond .lt 26, 3) := by decide +kernel
theorem d_M_leastFree_11 : decode b_M_leastFree 11 = .ok (.aload_n 0, 1) := by decide +kernel
theorem d_M_leastFree_12 : decode b_M_leastFree 12 = .ok (.getfield 7, 3) := by decide +kernel
theorem d_M_leastFree_15 : decode b_M_leastFree 15 = .ok (.iload_n 3, 1) := by decide +kernel
theorem d_M_leastFree_16 : decode b_M_leastFree 16 = .ok (.baload, 1) := by decide +kernel
theorem d_M_leastFree_17 : decode b_M_leastFree 17 = .ok (.ifCond .eq 9, 3) := by decide +kernel
theorem d_M_leastFree_20 : decode b_M_leastFree 20 = .ok (.iinc 2 1, 3) := by decide +kernel
theorem d_M_leastFree_23 : decode b_M_leastFree 23 = .ok (.goto 5, 3) := by decide +kernel
theorem d_M_leastFree_26 : decode b_M_leastFree 26 = .ok (.iload_n 3, 1) := by decide +kernel
theorem d_M_leastFree_27 : decode b_M_leastFree 27 = .ok (.istore_n 1, 1) := by decide +kernel
theorem d_M_leastFree_28 : decode b_M_leastFree 28 = .ok (.iinc 3 (-1), 3) := by decide +kernel
theorem d_M_leastFree_31 : decode b_M_leastFree 31 = .ok (.goto (-24), 3) := by decide +kernel
theorem d_M_leastFree_34 : decode b_M_leastFree 34 = .ok (.iload_n 2, 1) := by decide +kernel
theorem d_M_leastFree_35 : decode b_M_leastFree 35 = .ok (.aload_n 0, 1) := by decide +kernel
theorem d_M_leastFree_36 : decode b_M_leastFree 36 = .ok (.getfield 42, 3) := by decide +kernel
theorem d_M_leastFree_39 : decode b_M_leastFree 39 = .ok (.if_icmp .lt 8, 3) := by decide +kernel
theorem d_M_leastFree_42 : decode b_M_leastFree 42 = .ok (.bipush 6, 2) := by decide +kernel
theorem d_M_leastFree_44 : decode b_M_leastFree 44 = .ok (.goto 4, 3) := by decide +kernel
theorem d_M_leastFree_47 : decode b_M_leastFree 47 = .ok (.iload_n 1, 1) := by decide +kernel
theorem d_M_leastFree_48 : decode b_M_leastFree 48 = .ok (.ireturn, 1) := by decide +kernel
theorem d_M_offer_0 : decode b_M_offer 0 = .ok (.aload_n 0, 1) := by decide +kernel
theorem d_M_offer_1 : decode b_M_offer 1 = .ok (.iload_n 1, 1) := by decide +kernel
theorem d_M_offer_2 : decode b_M_offer 2 = .ok (.iload_n 2, 1) := by decide +kernel
theorem d_M_offer_3 : decode b_M_offer 3 = .ok (.invokevirtual 56, 3) := by decide +kernel
theorem d_M_offer_6 : decode b_M_offer 6 = .ok (.istore_n 3, 1) := by decide +kernel
theorem d_M_offer_7 : decode b_M_offer 7 = .ok (.iload_n 3, 1) := by decide +kernel
theorem d_M_offer_8 : decode b_M_offer 8 = .ok (.ifCond .lt 30, 3) := by decide +kernel
theorem d_M_offer_11 : decode b_M_offer 11 = .ok (.iload_n 3, 1) := by decide +kernel
theorem d_M_offer_12 : decode b_M_offer 12 = .ok (.bipush 6, 2) := by decide +kernel
theorem d_M_offer_14 : decode b_M_offer 14 = .ok (.if_icmp .ge 24, 3) := by decide +kernel
theorem d_M_offer_17 : decode b_M_offer 17 = .ok (.aload_n 0, 1) := by decide +kernel
theorem d_M_offer_18 : decode b_M_offer 18 = .ok (.getfield 7, 3) := by decide +kernel
theorem d_M_offer_21 : decode b_M_offer 21 = .ok (.iload_n 3, 1) := by decide +kernel
theorem d_M_offer_22 : decode b_M_offer 22 = .ok (.iconst 1, 1) := by decide +kernel
theorem d_M_offer_23 : decode b_M_offer 23 = .ok (.bastore, 1) := by decide +kernel
theorem d_M_offer_24 : decode b_M_offer 24 = .ok (.aload_n 0, 1) := by decide +kernel
theorem d_M_offer_25 : decode b_M_offer 25 = .ok (.getfield 13, 3) := by decide +kernel
theorem d_M_offer_28 : decode b_M_offer 28 = .ok (.iload_n 3, 1) := by decide +kernel
theorem d_M_offer_29 : decode b_M_offer 29 = .ok (.iload_n 1, 1) := by decide +kernel
theorem d_M_offer_30 : decode b_M_offer 30 = .ok (.iastore, 1) := by decide +kernel
theorem d_M_offer_31 : decode b_M_offer 31 = .ok (.aload_n 0, 1) := by decide +kernel
theorem d_M_offer_32 : decode b_M_offer 32 = .ok (.getfield 17, 3) := by decide +kernel
theorem d_M_offer_35 : decode b_M_offer 35 = .ok (.iload_n 3, 1) := by decide +kernel
theorem d_M_offer_36 : decode b_M_offer 36 = .ok (.iload_n 2, 1) := by decide +kernel
theorem d_M_offer_37 : decode b_M_offer 37 = .ok (.iastore, 1) := by decide +kernel
theorem d_M_offer_38 : decode b_M_offer 38 = .ok (.iload_n 3, 1) := by decide +kernel
theorem d_M_offer_39 : decode b_M_offer 39 = .ok (.ireturn, 1) := by decide +kernel
theorem d_M_probe_0 : decode b_M_probe 0 = .ok (.aload_n 0, 1) := by decide +kernel
theorem d_M_probe_1 : decode b_M_probe 1 = .ok (.iload_n 1, 1) := by decide +kernel
theorem d_M_probe_2 : decode b_M_probe 2 = .ok (.iload_n 2, 1) := by decide +kernel
theorem d_M_probe_3 : decode b_M_probe 3 = .ok (.invokevirtual 60, 3) := by decide +kernel
theorem d_M_probe_6 : decode b_M_probe 6 = .ok (.ifCond .eq 5, 3) := by decide +kernel
theorem d_M_probe_9 : decode b_M_probe 9 = .ok (.iconst (-1), 1) := by decide +kernel
theorem d_M_probe_10 : decode b_M_probe 10 = .ok (.ireturn, 1) := by decide +kernel
theorem d_M_probe_11 : decode b_M_probe 11 = .ok (.aload_n 0, 1) := by decide +kernel
theorem d_M_probe_12 : decode b_M_probe 12 = .ok (.invokevirtual 64, 3) := by decide +kernel
theorem d_M_probe_15 : decode b_M_probe 15 = .ok (.istore_n 3, 1) := by decide +kernel
theorem d_M_probe_16 : decode b_M_probe 16 = .ok (.iload_n 3, 1) := by decide +kernel
theorem d_M_probe_17 : decode b_M_probe 17 = .ok (.bipush 6, 2) := by decide +kernel
theorem d_M_probe_19 : decode b_M_probe 19 = .ok (.if_icmp .ne 6, 3) := by decide +kernel
theorem d_M_probe_22 : decode b_M_probe 22 = .ok (.bipush (-2), 2) := by decide +kernel
theorem d_M_probe_24 : decode b_M_probe 24 = .ok (.ireturn, 1) := by decide +kernel
theorem d_M_probe_25 : decode b_M_probe 25 = .ok (.aload_n 0, 1) := by decide +kernel
theorem d_M_probe_26 : decode b_M_probe 26 = .ok (.iconst 0, 1) := by decide +kernel
theorem d_M_probe_27 : decode b_M_probe 27 = .ok (.bipush 40, 2) := by decide +kernel
theorem d_M_probe_29 : decode b_M_probe 29 = .ok (.invokevirtual 68, 3) := by decide +kernel
theorem d_M_probe_32 : decode b_M_probe 32 = .ok (.aload_n 0, 1) := by decide +kernel
theorem d_M_probe_33 : decode b_M_probe 33 = .ok (.iload_n 3, 1) := by decide +kernel
theorem d_M_probe_34 : decode b_M_probe 34 = .ok (.iload_n 1, 1) := by decide +kernel
theorem d_M_probe_35 : decode b_M_probe 35 = .ok (.iload_n 2, 1) := by decide +kernel
theorem d_M_probe_36 : decode b_M_probe 36 = .ok (.invokevirtual 71, 3) := by decide +kernel
theorem d_M_probe_39 : decode b_M_probe 39 = .ok (.aload_n 0, 1) := by decide +kernel
theorem d_M_probe_40 : decode b_M_probe 40 = .ok (.invokevirtual 75, 3) := by decide +kernel
theorem d_M_probe_43 : decode b_M_probe 43 = .ok (.ifCond .eq 7, 3) := by decide +kernel
theorem d_M_probe_46 : decode b_M_probe 46 = .ok (.iload_n 3, 1) := by decide +kernel
theorem d_M_probe_47 : decode b_M_probe 47 = .ok (.goto 5, 3) := by decide +kernel
theorem d_M_probe_50 : decode b_M_probe 50 = .ok (.bipush (-3), 2) := by decide +kernel
theorem d_M_probe_52 : decode b_M_probe 52 = .ok (.ireturn, 1) := by decide +kernel
theorem d_M_move_0 : decode b_M_move 0 = .ok (.aload_n 0, 1) := by decide +kernel
theorem d_M_move_1 : decode b_M_move 1 = .ok (.iload_n 1, 1) := by decide +kernel
theorem d_M_move_2 : decode b_M_move 2 = .ok (.invokevirtual 79, 3) := by decide +kernel
theorem d_M_move_5 : decode b_M_move 5 = .ok (.ifCond .ne 6, 3) := by decide +kernel
theorem d_M_move_8 : decode b_M_move 8 = .ok (.bipush (-2), 2) := by decide +kernel
theorem d_M_move_10 : decode b_M_move 10 = .ok (.ireturn, 1) := by decide +kernel
theorem d_M_move_11 : decode b_M_move 11 = .ok (.aload_n 0, 1) := by decide +kernel
theorem d_M_move_12 : decode b_M_move 12 = .ok (.iload_n 2, 1) := by decide +kernel
theorem d_M_move_13 : decode b_M_move 13 = .ok (.iload_n 3, 1) := by decide +kernel
theorem d_M_move_14 : decode b_M_move 14 = .ok (.invokevirtual 60, 3) := by decide +kernel
theorem d_M_move_17 : decode b_M_move 17 = .ok (.ifCond .eq 5, 3) := by decide +kernel
theorem d_M_move_20 : decode b_M_move 20 = .ok (.iconst (-1), 1) := by decide +kernel
theorem d_M_move_21 : decode b_M_move 21 = .ok (.ireturn, 1) := by decide +kernel
theorem d_M_move_22 : decode b_M_move 22 = .ok (.aload_n 0, 1) := by decide +kernel
theorem d_M_move_23 : decode b_M_move 23 = .ok (.iconst 0, 1) := by decide +kernel
theorem d_M_move_24 : decode b_M_move 24 = .ok (.bipush 40, 2) := by decide +kernel
theorem d_M_move_26 : decode b_M_move 26 = .ok (.invokevirtual 68, 3) := by decide +kernel
theorem d_M_move_29 : decode b_M_move 29 = .ok (.aload_n 0, 1) := by decide +kernel
theorem d_M_move_30 : decode b_M_move 30 = .ok (.iload_n 1, 1) := by decide +kernel
theorem d_M_move_31 : decode b_M_move 31 = .ok (.iload_n 2, 1) := by decide +kernel
theorem d_M_move_32 : decode b_M_move 32 = .ok (.iload_n 3, 1) := by decide +kernel
theorem d_M_move_33 : decode b_M_move 33 = .ok (.invokevirtual 71, 3) := by decide +kernel
theorem d_M_move_36 : decode b_M_move 36 = .ok (.aload_n 0, 1) := by decide +kernel
theorem d_M_move_37 : decode b_M_move 37 = .ok (.invokevirtual 75, 3) := by decide +kernel
theorem d_M_move_40 : decode b_M_move 40 = .ok (.ifCond .ne 6, 3) := by decide +kernel
theorem d_M_move_43 : decode b_M_move 43 = .ok (.bipush (-3), 2) := by decide +kernel
theorem d_M_move_45 : decode b_M_move 45 = .ok (.ireturn, 1) := by decide +kernel
theorem d_M_move_46 : decode b_M_move 46 = .ok (.aload_n 0, 1) := by decide +kernel
theorem d_M_move_47 : decode b_M_move 47 = .ok (.getfield 13, 3) := by decide +kernel
theorem d_M_move_50 : decode b_M_move 50 = .ok (.iload_n 1, 1) := by decide +kernel
theorem d_M_move_51 : decode b_M_move 51 = .ok (.iload_n 2, 1) := by decide +kernel
theorem d_M_move_52 : decode b_M_move 52 = .ok (.iastore, 1) := by decide +kernel
theorem d_M_move_53 : decode b_M_move 53 = .ok (.aload_n 0, 1) := by decide +kernel
theorem d_M_move_54 : decode b_M_move 54 = .ok (.getfield 17, 3) := by decide +kernel
theorem d_M_move_57 : decode b_M_move 57 = .ok (.iload_n 1, 1) := by decide +kernel
theorem d_M_move_58 : decode b_M_move 58 = .ok (.iload_n 3, 1) := by decide +kernel
theorem d_M_move_59 : decode b_M_move 59 = .ok (.iastore, 1) := by decide +kernel
theorem d_M_move_60 : decode b_M_move 60 = .ok (.iload_n 1, 1) := by decide +kernel
theorem d_M_move_61 : decode b_M_move 61 = .ok (.ireturn, 1) := by decide +kernel
theorem d_M_withdraw_0 : decode b_M_withdraw 0 = .ok (.aload_n 0, 1) := by decide +kernel
theorem d_M_withdraw_1 : decode b_M_withdraw 1 = .ok (.iload_n 1, 1) := by decide +kernel
theorem d_M_withdraw_2 : decode b_M_withdraw 2 = .ok (.invokevirtual 79, 3) := by decide +kernel
theorem d_M_withdraw_5 : decode b_M_withdraw 5 = .ok (.ifCond .ne 5, 3) := by decide +kernel
theorem d_M_withdraw_8 : decode b_M_withdraw 8 = .ok (.iconst 0, 1) := by decide +kernel
theorem d_M_withdraw_9 : decode b_M_withdraw 9 = .ok (.ireturn, 1) := by decide +kernel
theorem d_M_withdraw_10 : decode b_M_withdraw 10 = .ok (.aload_n 0, 1) := by decide +kernel
theorem d_M_withdraw_11 : decode b_M_withdraw 11 = .ok (.getfield 7, 3) := by decide +kernel
theorem d_M_withdraw_14 : decode b_M_withdraw 14 = .ok (.iload_n 1, 1) := by decide +kernel
theorem d_M_withdraw_15 : decode b_M_withdraw 15 = .ok (.iconst 0, 1) := by decide +kernel
theorem d_M_withdraw_16 : decode b_M_withdraw 16 = .ok (.bastore, 1) := by decide +kernel
theorem d_M_withdraw_17 : decode b_M_withdraw 17 = .ok (.iconst 1, 1) := by decide +kernel
theorem d_M_withdraw_18 : decode b_M_withdraw 18 = .ok (.ireturn, 1) := by decide +kernel
theorem d_M_block_0 : decode b_M_block 0 = .ok (.iload_n 1, 1) := by decide +kernel
theorem d_M_block_1 : decode b_M_block 1 = .ok (.ifCond .lt 14, 3) := by decide +kernel
theorem d_M_block_4 : decode b_M_block 4 = .ok (.iload_n 1, 1) := by decide +kernel
theorem d_M_block_5 : decode b_M_block 5 = .ok (.iload_n 2, 1) := by decide +kernel
theorem d_M_block_6 : decode b_M_block 6 = .ok (.if_icmp .ge 9, 3) := by decide +kernel
theorem d_M_block_9 : decode b_M_block 9 = .ok (.iload_n 2, 1) := by decide +kernel
theorem d_M_block_10 : decode b_M_block 10 = .ok (.bipush 40, 2) := by decide +kernel
theorem d_M_block_12 : decode b_M_block 12 = .ok (.if_icmp .le 5, 3) := by decide +kernel
theorem d_M_block_15 : decode b_M_block 15 = .ok (.iconst (-1), 1) := by decide +kernel
theorem d_M_block_16 : decode b_M_block 16 = .ok (.ireturn, 1) := by decide +kernel
theorem d_M_block_17 : decode b_M_block 17 = .ok (.iconst 0, 1) := by decide +kernel
theorem d_M_block_18 : decode b_M_block 18 = .ok (.istore_n 3, 1) := by decide +kernel
theorem d_M_block_19 : decode b_M_block 19 = .ok (.iload_n 3, 1) := by decide +kernel
theorem d_M_block_20 : decode b_M_block 20 = .ok (.iconst 4, 1) := by decide +kernel
theorem d_M_block_21 : decode b_M_block 21 = .ok (.if_icmp .ge 18, 3) := by decide +kernel
theorem d_M_block_24 : decode b_M_block 24 = .ok (.aload_n 0, 1) := by decide +kernel
theorem d_M_block_25 : decode b_M_block 25 = .ok (.getfield 20, 3) := by decide +kernel
theorem d_M_block_28 : decode b_M_block 28 = .ok (.iload_n 3, 1) := by decide +kernel
theorem d_M_block_29 : decode b_M_block 29 = .ok (.baload, 1) := by decide +kernel
theorem d_M_block_30 : decode b_M_block 30 = .ok (.ifCond .eq 9, 3) := by decide +kernel
theorem d_M_block_33 : decode b_M_block 33 = .ok (.iinc 3 1, 3) := by decide +kernel
theorem d_M_block_36 : decode b_M_block 36 = .ok (.goto (-17), 3) := by decide +kernel
theorem d_M_block_39 : decode b_M_block 39 = .ok (.iload_n 3, 1) := by decide +kernel
theorem d_M_block_40 : decode b_M_block 40 = .ok (.iconst 4, 1) := by decide +kernel
theorem d_M_block_41 : decode b_M_block 41 = .ok (.if_icmp .ne 6, 3) := by decide +kernel
theorem d_M_block_44 : decode b_M_block 44 = .ok (.bipush (-2), 2) := by decide +kernel
theorem d_M_block_46 : decode b_M_block 46 = .ok (.ireturn, 1) := by decide +kernel
theorem d_M_block_47 : decode b_M_block 47 = .ok (.aload_n 0, 1) := by decide +kernel
theorem d_M_block_48 : decode b_M_block 48 = .ok (.getfield 20, 3) := by decide +kernel
theorem d_M_block_51 : decode b_M_block 51 = .ok (.iload_n 3, 1) := by decide +kernel
theorem d_M_block_52 : decode b_M_block 52 = .ok (.iconst 1, 1) := by decide +kernel
theorem d_M_block_53 : decode b_M_block 53 = .ok (.bastore, 1) := by decide +kernel
theorem d_M_block_54 : decode b_M_block 54 = .ok (.aload_n 0, 1) := by decide +kernel
theorem d_M_block_55 : decode b_M_block 55 = .ok (.getfield 23, 3) := by decide +kernel
theorem d_M_block_58 : decode b_M_block 58 = .ok (.iload_n 3, 1) := by decide +kernel
theorem d_M_block_59 : decode b_M_block 59 = .ok (.iload_n 1, 1) := by decide +kernel
theorem d_M_block_60 : decode b_M_block 60 = .ok (.iastore, 1) := by decide +kernel
theorem d_M_block_61 : decode b_M_block 61 = .ok (.aload_n 0, 1) := by decide +kernel
theorem d_M_block_62 : decode b_M_block 62 = .ok (.getfield 26, 3) := by decide +kernel
theorem d_M_block_65 : decode b_M_block 65 = .ok (.iload_n 3, 1) := by decide +kernel
theorem d_M_block_66 : decode b_M_block 66 = .ok (.iload_n 2, 1) := by decide +kernel
theorem d_M_block_67 : decode b_M_block 67 = .ok (.iastore, 1) := by decide +kernel
theorem d_M_block_68 : decode b_M_block 68 = .ok (.aload_n 0, 1) := by decide +kernel
theorem d_M_block_69 : decode b_M_block 69 = .ok (.iconst 0, 1) := by decide +kernel
theorem d_M_block_70 : decode b_M_block 70 = .ok (.bipush 40, 2) := by decide +kernel
theorem d_M_block_72 : decode b_M_block 72 = .ok (.invokevirtual 68, 3) := by decide +kernel
theorem d_M_block_75 : decode b_M_block 75 = .ok (.aload_n 0, 1) := by decide +kernel
theorem d_M_block_76 : decode b_M_block 76 = .ok (.invokevirtual 75, 3) := by decide +kernel
theorem d_M_block_79 : decode b_M_block 79 = .ok (.ifCond .eq 5, 3) := by decide +kernel
theorem d_M_block_82 : decode b_M_block 82 = .ok (.iload_n 3, 1) := by decide +kernel
theorem d_M_block_83 : decode b_M_block 83 = .ok (.ireturn, 1) := by decide +kernel
theorem d_M_block_84 : decode b_M_block 84 = .ok (.aload_n 0, 1) := by decide +kernel
theorem d_M_block_85 : decode b_M_block 85 = .ok (.getfield 20, 3) := by decide +kernel
theorem d_M_block_88 : decode b_M_block 88 = .ok (.iload_n 3, 1) := by decide +kernel
theorem d_M_block_89 : decode b_M_block 89 = .ok (.iconst 0, 1) := by decide +kernel
theorem d_M_block_90 : decode b_M_block 90 = .ok (.bastore, 1) := by decide +kernel
theorem d_M_block_91 : decode b_M_block 91 = .ok (.bipush (-3), 2) := by decide +kernel
theorem d_M_block_93 : decode b_M_block 93 = .ok (.ireturn, 1) := by decide +kernel
theorem d_M_unblock_0 : decode b_M_unblock 0 = .ok (.iload_n 1, 1) := by decide +kernel
theorem d_M_unblock_1 : decode b_M_unblock 1 = .ok (.ifCond .lt 17, 3) := by decide +kernel
theorem d_M_unblock_4 : decode b_M_unblock 4 = .ok (.iload_n 1, 1) := by decide +kernel
theorem d_M_unblock_5 : decode b_M_unblock 5 = .ok (.iconst 4, 1) := by decide +kernel
theorem d_M_unblock_6 : decode b_M_unblock 6 = .ok (.if_icmp .ge 12, 3) := by decide +kernel
theorem d_M_unblock_9 : decode b_M_unblock 9 = .ok (.aload_n 0, 1) := by decide +kernel
theorem d_M_unblock_10 : decode b_M_unblock 10 = .ok (.getfield 20, 3) := by decide +kernel
theorem d_M_unblock_13 : decode b_M_unblock 13 = .ok (.iload_n 1, 1) := by decide +kernel
theorem d_M_unblock_14 : decode b_M_unblock 14 = .ok (.baload, 1) := by decide +kernel
theorem d_M_unblock_15 : decode b_M_unblock 15 = .ok (.ifCond .ne 5, 3) := by decide +kernel
theorem d_M_unblock_18 : decode b_M_unblock 18 = .ok (.iconst 0, 1) := by decide +kernel
theorem d_M_unblock_19 : decode b_M_unblock 19 = .ok (.ireturn, 1) := by decide +kernel
theorem d_M_unblock_20 : decode b_M_unblock 20 = .ok (.aload_n 0, 1) := by decide +kernel
theorem d_M_unblock_21 : decode b_M_unblock 21 = .ok (.getfield 20, 3) := by decide +kernel
theorem d_M_unblock_24 : decode b_M_unblock 24 = .ok (.iload_n 1, 1) := by decide +kernel
theorem d_M_unblock_25 : decode b_M_unblock 25 = .ok (.iconst 0, 1) := by decide +kernel
theorem d_M_unblock_26 : decode b_M_unblock 26 = .ok (.bastore, 1) := by decide +kernel
theorem d_M_unblock_27 : decode b_M_unblock 27 = .ok (.iconst 1, 1) := by decide +kernel
theorem d_M_unblock_28 : decode b_M_unblock 28 = .ok (.ireturn, 1) := by decide +kernel
theorem d_M_jobs_0 : decode b_M_jobs 0 = .ok (.aload_n 0, 1) := by decide +kernel
theorem d_M_jobs_1 : decode b_M_jobs 1 = .ok (.iconst 0, 1) := by decide +kernel
theorem d_M_jobs_2 : decode b_M_jobs 2 = .ok (.bipush 40, 2) := by decide +kernel
theorem d_M_jobs_4 : decode b_M_jobs 4 = .ok (.invokevirtual 68, 3) := by decide +kernel
theorem d_M_jobs_7 : decode b_M_jobs 7 = .ok (.aload_n 0, 1) := by decide +kernel
theorem d_M_jobs_8 : decode b_M_jobs 8 = .ok (.getfield 45, 3) := by decide +kernel
theorem d_M_jobs_11 : decode b_M_jobs 11 = .ok (.ireturn, 1) := by decide +kernel
theorem d_M_release_0 : decode b_M_release 0 = .ok (.aload_n 0, 1) := by decide +kernel
theorem d_M_release_1 : decode b_M_release 1 = .ok (.iload_n 1, 1) := by decide +kernel
theorem d_M_release_2 : decode b_M_release 2 = .ok (.invokevirtual 79, 3) := by decide +kernel
theorem d_M_release_5 : decode b_M_release 5 = .ok (.ifCond .eq 12, 3) := by decide +kernel
theorem d_M_release_8 : decode b_M_release 8 = .ok (.aload_n 0, 1) := by decide +kernel
theorem d_M_release_9 : decode b_M_release 9 = .ok (.getfield 13, 3) := by decide +kernel
theorem d_M_release_12 : decode b_M_release 12 = .ok (.iload_n 1, 1) := by decide +kernel
theorem d_M_release_13 : decode b_M_release 13 = .ok (.iaload, 1) := by decide +kernel
theorem d_M_release_14 : decode b_M_release 14 = .ok (.goto 4, 3) := by decide +kernel
theorem d_M_release_17 : decode b_M_release 17 = .ok (.iconst (-1), 1) := by decide +kernel
theorem d_M_release_18 : decode b_M_release 18 = .ok (.ireturn, 1) := by decide +kernel
theorem d_M_deadline_0 : decode b_M_deadline 0 = .ok (.aload_n 0, 1) := by decide +kernel
theorem d_M_deadline_1 : decode b_M_deadline 1 = .ok (.iload_n 1, 1) := by decide +kernel
theorem d_M_deadline_2 : decode b_M_deadline 2 = .ok (.invokevirtual 79, 3) := by decide +kernel
theorem d_M_deadline_5 : decode b_M_deadline 5 = .ok (.ifCond .eq 12, 3) := by decide +kernel
theorem d_M_deadline_8 : decode b_M_deadline 8 = .ok (.aload_n 0, 1) := by decide +kernel
theorem d_M_deadline_9 : decode b_M_deadline 9 = .ok (.getfield 17, 3) := by decide +kernel
theorem d_M_deadline_12 : decode b_M_deadline 12 = .ok (.iload_n 1, 1) := by decide +kernel
theorem d_M_deadline_13 : decode b_M_deadline 13 = .ok (.iaload, 1) := by decide +kernel
theorem d_M_deadline_14 : decode b_M_deadline 14 = .ok (.goto 4, 3) := by decide +kernel
theorem d_M_deadline_17 : decode b_M_deadline 17 = .ok (.iconst (-1), 1) := by decide +kernel
theorem d_M_deadline_18 : decode b_M_deadline 18 = .ok (.ireturn, 1) := by decide +kernel
theorem d_M_earliestEnd_0 : decode b_M_earliestEnd 0 = .ok (.iconst 0, 1) := by decide +kernel
theorem d_M_earliestEnd_1 : decode b_M_earliestEnd 1 = .ok (.istore_n 1, 1) := by decide +kernel
theorem d_M_earliestEnd_2 : decode b_M_earliestEnd 2 = .ok (.iload_n 1, 1) := by decide +kernel
theorem d_M_earliestEnd_3 : decode b_M_earliestEnd 3 = .ok (.bipush 40, 2) := by decide +kernel
theorem d_M_earliestEnd_5 : decode b_M_earliestEnd 5 = .ok (.if_icmp .gt 24, 3) := by decide +kernel
theorem d_M_earliestEnd_8 : decode b_M_earliestEnd 8 = .ok (.aload_n 0, 1) := by decide +kernel
theorem d_M_earliestEnd_9 : decode b_M_earliestEnd 9 = .ok (.iconst 0, 1) := by decide +kernel
theorem d_M_earliestEnd_10 : decode b_M_earliestEnd 10 = .ok (.iload_n 1, 1) := by decide +kernel
theorem d_M_earliestEnd_11 : decode b_M_earliestEnd 11 = .ok (.invokevirtual 68, 3) := by decide +kernel
theorem d_M_earliestEnd_14 : decode b_M_earliestEnd 14 = .ok (.aload_n 0, 1) := by decide +kernel
theorem d_M_earliestEnd_15 : decode b_M_earliestEnd 15 = .ok (.invokevirtual 75, 3) := by decide +kernel
theorem d_M_earliestEnd_18 : decode b_M_earliestEnd 18 = .ok (.ifCond .eq 5, 3) := by decide +kernel
theorem d_M_earliestEnd_21 : decode b_M_earliestEnd 21 = .ok (.iload_n 1, 1) := by decide +kernel
theorem d_M_earliestEnd_22 : decode b_M_earliestEnd 22 = .ok (.ireturn, 1) := by decide +kernel
theorem d_M_earliestEnd_23 : decode b_M_earliestEnd 23 = .ok (.iinc 1 1, 3) := by decide +kernel
theorem d_M_earliestEnd_26 : decode b_M_earliestEnd 26 = .ok (.goto (-24), 3) := by decide +kernel
theorem d_M_earliestEnd_29 : decode b_M_earliestEnd 29 = .ok (.bipush 40, 2) := by decide +kernel
theorem d_M_earliestEnd_31 : decode b_M_earliestEnd 31 = .ok (.ireturn, 1) := by decide +kernel
theorem d_M_latestBegin_0 : decode b_M_latestBegin 0 = .ok (.bipush 40, 2) := by decide +kernel
theorem d_M_latestBegin_2 : decode b_M_latestBegin 2 = .ok (.istore_n 1, 1) := by decide +kernel
theorem d_M_latestBegin_3 : decode b_M_latestBegin 3 = .ok (.iload_n 1, 1) := by decide +kernel
theorem d_M_latestBegin_4 : decode b_M_latestBegin 4 = .ok (.ifCond .lt 25, 3) := by decide +kernel
theorem d_M_latestBegin_7 : decode b_M_latestBegin 7 = .ok (.aload_n 0, 1) := by decide +kernel
theorem d_M_latestBegin_8 : decode b_M_latestBegin 8 = .ok (.iload_n 1, 1) := by decide +kernel
theorem d_M_latestBegin_9 : decode b_M_latestBegin 9 = .ok (.bipush 40, 2) := by decide +kernel
theorem d_M_latestBegin_11 : decode b_M_latestBegin 11 = .ok (.invokevirtual 68, 3) := by decide +kernel
theorem d_M_latestBegin_14 : decode b_M_latestBegin 14 = .ok (.aload_n 0, 1) := by decide +kernel
theorem d_M_latestBegin_15 : decode b_M_latestBegin 15 = .ok (.invokevirtual 75, 3) := by decide +kernel
theorem d_M_latestBegin_18 : decode b_M_latestBegin 18 = .ok (.ifCond .eq 5, 3) := by decide +kernel
theorem d_M_latestBegin_21 : decode b_M_latestBegin 21 = .ok (.iload_n 1, 1) := by decide +kernel
theorem d_M_latestBegin_22 : decode b_M_latestBegin 22 = .ok (.ireturn, 1) := by decide +kernel
theorem d_M_latestBegin_23 : decode b_M_latestBegin 23 = .ok (.iinc 1 (-1), 3) := by decide +kernel
theorem d_M_latestBegin_26 : decode b_M_latestBegin 26 = .ok (.goto (-23), 3) := by decide +kernel
theorem d_M_latestBegin_29 : decode b_M_latestBegin 29 = .ok (.iconst 0, 1) := by decide +kernel
theorem d_M_latestBegin_30 : decode b_M_latestBegin 30 = .ok (.ireturn, 1) := by decide +kernel
theorem d_M_earliestStart_0 : decode b_M_earliestStart 0 = .ok (.aload_n 0, 1) := by decide +kernel
theorem d_M_earliestStart_1 : decode b_M_earliestStart 1 = .ok (.iload_n 1, 1) := by decide +kernel
theorem d_M_earliestStart_2 : decode b_M_earliestStart 2 = .ok (.invokevirtual 79, 3) := by decide +kernel
theorem d_M_earliestStart_5 : decode b_M_earliestStart 5 = .ok (.ifCond .ne 5, 3) := by decide +kernel
theorem d_M_earliestStart_8 : decode b_M_earliestStart 8 = .ok (.iconst (-1), 1) := by decide +kernel
theorem d_M_earliestStart_9 : decode b_M_earliestStart 9 = .ok (.ireturn, 1) := by decide +kernel
theorem d_M_earliestStart_10 : decode b_M_earliestStart 10 = .ok (.aload_n 0, 1) := by decide +kernel
theorem d_M_earliestStart_11 : decode b_M_earliestStart 11 = .ok (.iconst 0, 1) := by decide +kernel
theorem d_M_earliestStart_12 : decode b_M_earliestStart 12 = .ok (.bipush 40, 2) := by decide +kernel
theorem d_M_earliestStart_14 : decode b_M_earliestStart 14 = .ok (.invokevirtual 68, 3) := by decide +kernel
theorem d_M_earliestStart_17 : decode b_M_earliestStart 17 = .ok (.aload_n 0, 1) := by decide +kernel
theorem d_M_earliestStart_18 : decode b_M_earliestStart 18 = .ok (.getfield 13, 3) := by decide +kernel
theorem d_M_earliestStart_21 : decode b_M_earliestStart 21 = .ok (.iload_n 1, 1) := by decide +kernel
theorem d_M_earliestStart_22 : decode b_M_earliestStart 22 = .ok (.iaload, 1) := by decide +kernel
theorem d_M_earliestStart_23 : decode b_M_earliestStart 23 = .ok (.istore_n 2, 1) := by decide +kernel
theorem d_M_earliestStart_24 : decode b_M_earliestStart 24 = .ok (.iload_n 2, 1) := by decide +kernel
theorem d_M_earliestStart_25 : decode b_M_earliestStart 25 = .ok (.aload_n 0, 1) := by decide +kernel
theorem d_M_earliestStart_26 : decode b_M_earliestStart 26 = .ok (.getfield 38, 3) := by decide +kernel
theorem d_M_earliestStart_29 : decode b_M_earliestStart 29 = .ok (.iadd, 1) := by decide +kernel
theorem d_M_earliestStart_30 : decode b_M_earliestStart 30 = .ok (.aload_n 0, 1) := by decide +kernel
theorem d_M_earliestStart_31 : decode b_M_earliestStart 31 = .ok (.getfield 17, 3) := by decide +kernel
theorem d_M_earliestStart_34 : decode b_M_earliestStart 34 = .ok (.iload_n 1, 1) := by decide +kernel
theorem d_M_earliestStart_35 : decode b_M_earliestStart 35 = .ok (.iaload, 1) := by decide +kernel
theorem d_M_earliestStart_36 : decode b_M_earliestStart 36 = .ok (.if_icmp .gt 30, 3) := by decide +kernel
theorem d_M_earliestStart_39 : decode b_M_earliestStart 39 = .ok (.aload_n 0, 1) := by decide +kernel
theorem d_M_earliestStart_40 : decode b_M_earliestStart 40 = .ok (.iload_n 1, 1) := by decide +kernel
theorem d_M_earliestStart_41 : decode b_M_earliestStart 41 = .ok (.iload_n 2, 1) := by decide +kernel
theorem d_M_earliestStart_42 : decode b_M_earliestStart 42 = .ok (.iload_n 2, 1) := by decide +kernel
theorem d_M_earliestStart_43 : decode b_M_earliestStart 43 = .ok (.aload_n 0, 1) := by decide +kernel
theorem d_M_earliestStart_44 : decode b_M_earliestStart 44 = .ok (.getfield 38, 3) := by decide +kernel
theorem d_M_earliestStart_47 : decode b_M_earliestStart 47 = .ok (.iadd, 1) := by decide +kernel
theorem d_M_earliestStart_48 : decode b_M_earliestStart 48 = .ok (.invokevirtual 71, 3) := by decide +kernel
theorem d_M_earliestStart_51 : decode b_M_earliestStart 51 = .ok (.aload_n 0, 1) := by decide +kernel
theorem d_M_earliestStart_52 : decode b_M_earliestStart 52 = .ok (.invokevirtual 75, 3) := by decide +kernel
theorem d_M_earliestStart_55 : decode b_M_earliestStart 55 = .ok (.ifCond .eq 5, 3) := by decide +kernel
theorem d_M_earliestStart_58 : decode b_M_earliestStart 58 = .ok (.iload_n 2, 1) := by decide +kernel
theorem d_M_earliestStart_59 : decode b_M_earliestStart 59 = .ok (.ireturn, 1) := by decide +kernel
theorem d_M_earliestStart_60 : decode b_M_earliestStart 60 = .ok (.iinc 2 1, 3) := by decide +kernel
theorem d_M_earliestStart_63 : decode b_M_earliestStart 63 = .ok (.goto (-39), 3) := by decide +kernel
theorem d_M_earliestStart_66 : decode b_M_earliestStart 66 = .ok (.iconst (-1), 1) := by decide +kernel
theorem d_M_earliestStart_67 : decode b_M_earliestStart 67 = .ok (.ireturn, 1) := by decide +kernel
theorem d_M_latestStart_0 : decode b_M_latestStart 0 = .ok (.aload_n 0, 1) := by decide +kernel
theorem d_M_latestStart_1 : decode b_M_latestStart 1 = .ok (.iload_n 1, 1) := by decide +kernel
theorem d_M_latestStart_2 : decode b_M_latestStart 2 = .ok (.invokevirtual 79, 3) := by decide +kernel
theorem d_M_latestStart_5 : decode b_M_latestStart 5 = .ok (.ifCond .ne 5, 3) := by decide +kernel
theorem d_M_latestStart_8 : decode b_M_latestStart 8 = .ok (.iconst (-1), 1) := by decide +kernel
theorem d_M_latestStart_9 : decode b_M_latestStart 9 = .ok (.ireturn, 1) := by decide +kernel
theorem d_M_latestStart_10 : decode b_M_latestStart 10 = .ok (.aload_n 0, 1) := by decide +kernel
theorem d_M_latestStart_11 : decode b_M_latestStart 11 = .ok (.iconst 0, 1) := by decide +kernel
theorem d_M_latestStart_12 : decode b_M_latestStart 12 = .ok (.bipush 40, 2) := by decide +kernel
theorem d_M_latestStart_14 : decode b_M_latestStart 14 = .ok (.invokevirtual 68, 3) := by decide +kernel
theorem d_M_latestStart_17 : decode b_M_latestStart 17 = .ok (.aload_n 0, 1) := by decide +kernel
theorem d_M_latestStart_18 : decode b_M_latestStart 18 = .ok (.getfield 17, 3) := by decide +kernel
theorem d_M_latestStart_21 : decode b_M_latestStart 21 = .ok (.iload_n 1, 1) := by decide +kernel
theorem d_M_latestStart_22 : decode b_M_latestStart 22 = .ok (.iaload, 1) := by decide +kernel
theorem d_M_latestStart_23 : decode b_M_latestStart 23 = .ok (.aload_n 0, 1) := by decide +kernel
theorem d_M_latestStart_24 : decode b_M_latestStart 24 = .ok (.getfield 38, 3) := by decide +kernel
theorem d_M_latestStart_27 : decode b_M_latestStart 27 = .ok (.isub, 1) := by decide +kernel
theorem d_M_latestStart_28 : decode b_M_latestStart 28 = .ok (.istore_n 2, 1) := by decide +kernel
theorem d_M_latestStart_29 : decode b_M_latestStart 29 = .ok (.iload_n 2, 1) := by decide +kernel
theorem d_M_latestStart_30 : decode b_M_latestStart 30 = .ok (.aload_n 0, 1) := by decide +kernel
theorem d_M_latestStart_31 : decode b_M_latestStart 31 = .ok (.getfield 13, 3) := by decide +kernel
theorem d_M_latestStart_34 : decode b_M_latestStart 34 = .ok (.iload_n 1, 1) := by decide +kernel
theorem d_M_latestStart_35 : decode b_M_latestStart 35 = .ok (.iaload, 1) := by decide +kernel
theorem d_M_latestStart_36 : decode b_M_latestStart 36 = .ok (.if_icmp .lt 30, 3) := by decide +kernel
theorem d_M_latestStart_39 : decode b_M_latestStart 39 = .ok (.aload_n 0, 1) := by decide +kernel
theorem d_M_latestStart_40 : decode b_M_latestStart 40 = .ok (.iload_n 1, 1) := by decide +kernel
theorem d_M_latestStart_41 : decode b_M_latestStart 41 = .ok (.iload_n 2, 1) := by decide +kernel
theorem d_M_latestStart_42 : decode b_M_latestStart 42 = .ok (.iload_n 2, 1) := by decide +kernel
theorem d_M_latestStart_43 : decode b_M_latestStart 43 = .ok (.aload_n 0, 1) := by decide +kernel
theorem d_M_latestStart_44 : decode b_M_latestStart 44 = .ok (.getfield 38, 3) := by decide +kernel
theorem d_M_latestStart_47 : decode b_M_latestStart 47 = .ok (.iadd, 1) := by decide +kernel
theorem d_M_latestStart_48 : decode b_M_latestStart 48 = .ok (.invokevirtual 71, 3) := by decide +kernel
theorem d_M_latestStart_51 : decode b_M_latestStart 51 = .ok (.aload_n 0, 1) := by decide +kernel
theorem d_M_latestStart_52 : decode b_M_latestStart 52 = .ok (.invokevirtual 75, 3) := by decide +kernel
theorem d_M_latestStart_55 : decode b_M_latestStart 55 = .ok (.ifCond .eq 5, 3) := by decide +kernel
theorem d_M_latestStart_58 : decode b_M_latestStart 58 = .ok (.iload_n 2, 1) := by decide +kernel
theorem d_M_latestStart_59 : decode b_M_latestStart 59 = .ok (.ireturn, 1) := by decide +kernel
theorem d_M_latestStart_60 : decode b_M_latestStart 60 = .ok (.iinc 2 (-1), 3) := by decide +kernel
theorem d_M_latestStart_63 : decode b_M_latestStart 63 = .ok (.goto (-34), 3) := by decide +kernel
theorem d_M_latestStart_66 : decode b_M_latestStart 66 = .ok (.iconst (-1), 1) := by decide +kernel
theorem d_M_latestStart_67 : decode b_M_latestStart 67 = .ok (.ireturn, 1) := by decide +kernel
theorem d_M_open_0 : decode b_M_open 0 = .ok (.iload_n 1, 1) := by decide +kernel
theorem d_M_open_1 : decode b_M_open 1 = .ok (.ifCond .lt 20, 3) := by decide +kernel
theorem d_M_open_4 : decode b_M_open 4 = .ok (.iload_n 1, 1) := by decide +kernel
theorem d_M_open_5 : decode b_M_open 5 = .ok (.bipush 40, 2) := by decide +kernel
theorem d_M_open_7 : decode b_M_open 7 = .ok (.if_icmp .gt 14, 3) := by decide +kernel
theorem d_M_open_10 : decode b_M_open 10 = .ok (.iload_n 1, 1) := by decide +kernel
theorem d_M_open_11 : decode b_M_open 11 = .ok (.aload_n 0, 1) := by decide +kernel
theorem d_M_open_12 : decode b_M_open 12 = .ok (.getfield 38, 3) := by decide +kernel
theorem d_M_open_15 : decode b_M_open 15 = .ok (.iadd, 1) := by decide +kernel
theorem d_M_open_16 : decode b_M_open 16 = .ok (.bipush 40, 2) := by decide +kernel
theorem d_M_open_18 : decode b_M_open 18 = .ok (.if_icmp .le 5, 3) := by decide +kernel
theorem d_M_open_21 : decode b_M_open 21 = .ok (.iconst 0, 1) := by decide +kernel
theorem d_M_open_22 : decode b_M_open 22 = .ok (.ireturn, 1) := by decide +kernel
theorem d_M_open_23 : decode b_M_open 23 = .ok (.aload_n 0, 1) := by decide +kernel
theorem d_M_open_24 : decode b_M_open 24 = .ok (.iconst 0, 1) := by decide +kernel
theorem d_M_open_25 : decode b_M_open 25 = .ok (.bipush 40, 2) := by decide +kernel
theorem d_M_open_27 : decode b_M_open 27 = .ok (.invokevirtual 68, 3) := by decide +kernel
theorem d_M_open_30 : decode b_M_open 30 = .ok (.aload_n 0, 1) := by decide +kernel
theorem d_M_open_31 : decode b_M_open 31 = .ok (.bipush 6, 2) := by decide +kernel
theorem d_M_open_33 : decode b_M_open 33 = .ok (.iload_n 1, 1) := by decide +kernel
theorem d_M_open_34 : decode b_M_open 34 = .ok (.iload_n 1, 1) := by decide +kernel
theorem d_M_open_35 : decode b_M_open 35 = .ok (.aload_n 0, 1) := by decide +kernel
theorem d_M_open_36 : decode b_M_open 36 = .ok (.getfield 38, 3) := by decide +kernel
theorem d_M_open_39 : decode b_M_open 39 = .ok (.iadd, 1) := by decide +kernel
theorem d_M_open_40 : decode b_M_open 40 = .ok (.invokevirtual 71, 3) := by decide +kernel
theorem d_M_open_43 : decode b_M_open 43 = .ok (.aload_n 0, 1) := by decide +kernel
theorem d_M_open_44 : decode b_M_open 44 = .ok (.invokevirtual 75, 3) := by decide +kernel
theorem d_M_open_47 : decode b_M_open 47 = .ok (.ireturn, 1) := by decide +kernel
theorem d_M_plannedStart_0 : decode b_M_plannedStart 0 = .ok (.aload_n 0, 1) := by decide +kernel
theorem d_M_plannedStart_1 : decode b_M_plannedStart 1 = .ok (.iload_n 1, 1) := by decide +kernel
theorem d_M_plannedStart_2 : decode b_M_plannedStart 2 = .ok (.invokevirtual 79, 3) := by decide +kernel
theorem d_M_plannedStart_5 : decode b_M_plannedStart 5 = .ok (.ifCond .ne 5, 3) := by decide +kernel
theorem d_M_plannedStart_8 : decode b_M_plannedStart 8 = .ok (.iconst (-1), 1) := by decide +kernel
theorem d_M_plannedStart_9 : decode b_M_plannedStart 9 = .ok (.ireturn, 1) := by decide +kernel
theorem d_M_plannedStart_10 : decode b_M_plannedStart 10 = .ok (.aload_n 0, 1) := by decide +kernel
theorem d_M_plannedStart_11 : decode b_M_plannedStart 11 = .ok (.iconst 0, 1) := by decide +kernel
theorem d_M_plannedStart_12 : decode b_M_plannedStart 12 = .ok (.bipush 40, 2) := by decide +kernel
theorem d_M_plannedStart_14 : decode b_M_plannedStart 14 = .ok (.invokevirtual 68, 3) := by decide +kernel
theorem d_M_plannedStart_17 : decode b_M_plannedStart 17 = .ok (.iconst (-1), 1) := by decide +kernel
theorem d_M_plannedStart_18 : decode b_M_plannedStart 18 = .ok (.istore_n 2, 1) := by decide +kernel
theorem d_M_plannedStart_19 : decode b_M_plannedStart 19 = .ok (.iconst 0, 1) := by decide +kernel
theorem d_M_plannedStart_20 : decode b_M_plannedStart 20 = .ok (.istore_n 3, 1) := by decide +kernel
theorem d_M_plannedStart_21 : decode b_M_plannedStart 21 = .ok (.iload_n 3, 1) := by decide +kernel
theorem d_M_plannedStart_22 : decode b_M_plannedStart 22 = .ok (.iload_n 1, 1) := by decide +kernel
theorem d_M_plannedStart_23 : decode b_M_plannedStart 23 = .ok (.if_icmp .gt 81, 3) := by decide +kernel
theorem d_M_plannedStart_26 : decode b_M_plannedStart 26 = .ok (.iload_n 3, 1) := by decide +kernel
theorem d_M_plannedStart_27 : decode b_M_plannedStart 27 = .ok (.bipush 6, 2) := by decide +kernel
theorem d_M_plannedStart_29 : decode b_M_plannedStart 29 = .ok (.if_icmp .ge 75, 3) := by decide +kernel
theorem d_M_plannedStart_32 : decode b_M_plannedStart 32 = .ok (.aload_n 0, 1) := by decide +kernel
theorem d_M_plannedStart_33 : decode b_M_plannedStart 33 = .ok (.getfield 7, 3) := by decide +kernel
theorem d_M_plannedStart_36 : decode b_M_plannedStart 36 = .ok (.iload_n 3, 1) := by decide +kernel
theorem d_M_plannedStart_37 : decode b_M_plannedStart 37 = .ok (.baload, 1) := by decide +kernel
theorem d_M_plannedStart_38 : decode b_M_plannedStart 38 = .ok (.ifCond .eq 60, 3) := by decide +kernel
theorem d_M_plannedStart_41 : decode b_M_plannedStart 41 = .ok (.aload_n 0, 1) := by decide +kernel
theorem d_M_plannedStart_42 : decode b_M_plannedStart 42 = .ok (.getfield 13, 3) := by decide +kernel
theorem d_M_plannedStart_45 : decode b_M_plannedStart 45 = .ok (.iload_n 3, 1) := by decide +kernel
theorem d_M_plannedStart_46 : decode b_M_plannedStart 46 = .ok (.iaload, 1) := by decide +kernel
theorem d_M_plannedStart_47 : decode b_M_plannedStart 47 = .ok (.istore_n 2, 1) := by decide +kernel
theorem d_M_plannedStart_48 : decode b_M_plannedStart 48 = .ok (.aload_n 0, 1) := by decide +kernel
theorem d_M_plannedStart_49 : decode b_M_plannedStart 49 = .ok (.iload_n 3, 1) := by decide +kernel
theorem d_M_plannedStart_50 : decode b_M_plannedStart 50 = .ok (.iload_n 2, 1) := by decide +kernel
theorem d_M_plannedStart_51 : decode b_M_plannedStart 51 = .ok (.iload_n 2, 1) := by decide +kernel
theorem d_M_plannedStart_52 : decode b_M_plannedStart 52 = .ok (.aload_n 0, 1) := by decide +kernel
theorem d_M_plannedStart_53 : decode b_M_plannedStart 53 = .ok (.getfield 38, 3) := by decide +kernel
theorem d_M_plannedStart_56 : decode b_M_plannedStart 56 = .ok (.iadd, 1) := by decide +kernel
theorem d_M_plannedStart_57 : decode b_M_plannedStart 57 = .ok (.invokevirtual 71, 3) := by decide +kernel
theorem d_M_plannedStart_60 : decode b_M_plannedStart 60 = .ok (.iconst 0, 1) := by decide +kernel
theorem d_M_plannedStart_61 : decode b_M_plannedStart 61 = .ok (.istore 4, 2) := by decide +kernel
theorem d_M_plannedStart_63 : decode b_M_plannedStart 63 = .ok (.iload 4, 2) := by decide +kernel
theorem d_M_plannedStart_65 : decode b_M_plannedStart 65 = .ok (.bipush 40, 2) := by decide +kernel
theorem d_M_plannedStart_67 : decode b_M_plannedStart 67 = .ok (.if_icmp .ge 31, 3) := by decide +kernel
theorem d_M_plannedStart_70 : decode b_M_plannedStart 70 = .ok (.aload_n 0, 1) := by decide +kernel
theorem d_M_plannedStart_71 : decode b_M_plannedStart 71 = .ok (.invokevirtual 75, 3) := by decide +kernel
theorem d_M_plannedStart_74 : decode b_M_plannedStart 74 = .ok (.ifCond .ne 24, 3) := by decide +kernel
theorem d_M_plannedStart_77 : decode b_M_plannedStart 77 = .ok (.iinc 2 1, 3) := by decide +kernel
theorem d_M_plannedStart_80 : decode b_M_plannedStart 80 = .ok (.aload_n 0, 1) := by decide +kernel
theorem d_M_plannedStart_81 : decode b_M_plannedStart 81 = .ok (.iload_n 3, 1) := by decide +kernel
theorem d_M_plannedStart_82 : decode b_M_plannedStart 82 = .ok (.iload_n 2, 1) := by decide +kernel
theorem d_M_plannedStart_83 : decode b_M_plannedStart 83 = .ok (.iload_n 2, 1) := by decide +kernel
theorem d_M_plannedStart_84 : decode b_M_plannedStart 84 = .ok (.aload_n 0, 1) := by decide +kernel
theorem d_M_plannedStart_85 : decode b_M_plannedStart 85 = .ok (.getfield 38, 3) := by decide +kernel
theorem d_M_plannedStart_88 : decode b_M_plannedStart 88 = .ok (.iadd, 1) := by decide +kernel
theorem d_M_plannedStart_89 : decode b_M_plannedStart 89 = .ok (.invokevirtual 71, 3) := by decide +kernel
theorem d_M_plannedStart_92 : decode b_M_plannedStart 92 = .ok (.iinc 4 1, 3) := by decide +kernel
theorem d_M_plannedStart_95 : decode b_M_plannedStart 95 = .ok (.goto (-32), 3) := by decide +kernel
theorem d_M_plannedStart_98 : decode b_M_plannedStart 98 = .ok (.iinc 3 1, 3) := by decide +kernel
theorem d_M_plannedStart_101 : decode b_M_plannedStart 101 = .ok (.goto (-80), 3) := by decide +kernel
theorem d_M_plannedStart_104 : decode b_M_plannedStart 104 = .ok (.iload_n 2, 1) := by decide +kernel
theorem d_M_plannedStart_105 : decode b_M_plannedStart 105 = .ok (.ireturn, 1) := by decide +kernel
end
section
-- DECODE ROWS: printed by gen/gen.py
theorem d_L_cell_0 : decode b_L_cell 0 = .ok (.iload_n 1, 1) := by decide +kernel
theorem d_L_cell_1 : decode b_L_cell 1 = .ok (.aload_n 0, 1) := by decide +kernel
theorem d_L_cell_2 : decode b_L_cell 2 = .ok (.arraylength, 1) := by decide +kernel
theorem d_L_cell_3 : decode b_L_cell 3 = .ok (.if_icmp .ge 9, 3) := by decide +kernel
theorem d_L_cell_6 : decode b_L_cell 6 = .ok (.aload_n 0, 1) := by decide +kernel
theorem d_L_cell_7 : decode b_L_cell 7 = .ok (.iload_n 1, 1) := by decide +kernel
theorem d_L_cell_8 : decode b_L_cell 8 = .ok (.iaload, 1) := by decide +kernel
theorem d_L_cell_9 : decode b_L_cell 9 = .ok (.goto 4, 3) := by decide +kernel
theorem d_L_cell_12 : decode b_L_cell 12 = .ok (.iconst 0, 1) := by decide +kernel
theorem d_L_cell_13 : decode b_L_cell 13 = .ok (.ireturn, 1) := by decide +kernel
theorem d_law_0 : decode code 0 = .ok (.new 7, 3) := by decide +kernel
theorem d_law_3 : decode code 3 = .ok (.dup, 1) := by decide +kernel
theorem d_law_4 : decode code 4 = .ok (.aload_n 0, 1) := by decide +kernel
theorem d_law_5 : decode code 5 = .ok (.iconst 0, 1) := by decide +kernel
theorem d_law_6 : decode code 6 = .ok (.invokestatic 9, 3) := by decide +kernel
theorem d_law_9 : decode code 9 = .ok (.aload_n 0, 1) := by decide +kernel
theorem d_law_10 : decode code 10 = .ok (.iconst 1, 1) := by decide +kernel
theorem d_law_11 : decode code 11 = .ok (.invokestatic 9, 3) := by decide +kernel
theorem d_law_14 : decode code 14 = .ok (.invokespecial 15, 3) := by decide +kernel
theorem d_law_17 : decode code 17 = .ok (.astore_n 1, 1) := by decide +kernel
theorem d_law_18 : decode code 18 = .ok (.new 18, 3) := by decide +kernel
theorem d_law_21 : decode code 21 = .ok (.dup, 1) := by decide +kernel
theorem d_law_22 : decode code 22 = .ok (.aload_n 0, 1) := by decide +kernel
theorem d_law_23 : decode code 23 = .ok (.iconst 0, 1) := by decide +kernel
theorem d_law_24 : decode code 24 = .ok (.invokestatic 9, 3) := by decide +kernel
theorem d_law_27 : decode code 27 = .ok (.aload_n 0, 1) := by decide +kernel
theorem d_law_28 : decode code 28 = .ok (.iconst 1, 1) := by decide +kernel
theorem d_law_29 : decode code 29 = .ok (.invokestatic 9, 3) := by decide +kernel
theorem d_law_32 : decode code 32 = .ok (.invokespecial 20, 3) := by decide +kernel
theorem d_law_35 : decode code 35 = .ok (.astore_n 2, 1) := by decide +kernel
theorem d_law_36 : decode code 36 = .ok (.iconst 2, 1) := by decide +kernel
theorem d_law_37 : decode code 37 = .ok (.istore_n 3, 1) := by decide +kernel
theorem d_law_38 : decode code 38 = .ok (.iload_n 3, 1) := by decide +kernel
theorem d_law_39 : decode code 39 = .ok (.aload_n 0, 1) := by decide +kernel
theorem d_law_40 : decode code 40 = .ok (.arraylength, 1) := by decide +kernel
theorem d_law_41 : decode code 41 = .ok (.iconst 4, 1) := by decide +kernel
theorem d_law_42 : decode code 42 = .ok (.isub, 1) := by decide +kernel
theorem d_law_43 : decode code 43 = .ok (.if_icmp .gt 456, 3) := by decide +kernel
theorem d_law_46 : decode code 46 = .ok (.aload_n 0, 1) := by decide +kernel
theorem d_law_47 : decode code 47 = .ok (.iload_n 3, 1) := by decide +kernel
theorem d_law_48 : decode code 48 = .ok (.iaload, 1) := by decide +kernel
theorem d_law_49 : decode code 49 = .ok (.bipush 15, 2) := by decide +kernel
theorem d_law_51 : decode code 51 = .ok (.iand, 1) := by decide +kernel
theorem d_law_52 : decode code 52 = .ok (.tableswitch 441 0 14 #[76, 109, 142, 185, 208, 241, 264, 277, 300, 323, 336, 349, 372, 395, 418], 76) := by decide +kernel
theorem d_law_128 : decode code 128 = .ok (.aload_n 1, 1) := by decide +kernel
theorem d_law_129 : decode code 129 = .ok (.aload_n 0, 1) := by decide +kernel
theorem d_law_130 : decode code 130 = .ok (.iload_n 3, 1) := by decide +kernel
theorem d_law_131 : decode code 131 = .ok (.iconst 1, 1) := by decide +kernel
theorem d_law_132 : decode code 132 = .ok (.iadd, 1) := by decide +kernel
theorem d_law_133 : decode code 133 = .ok (.iaload, 1) := by decide +kernel
theorem d_law_134 : decode code 134 = .ok (.aload_n 0, 1) := by decide +kernel
theorem d_law_135 : decode code 135 = .ok (.iload_n 3, 1) := by decide +kernel
theorem d_law_136 : decode code 136 = .ok (.iconst 2, 1) := by decide +kernel
theorem d_law_137 : decode code 137 = .ok (.iadd, 1) := by decide +kernel
theorem d_law_138 : decode code 138 = .ok (.iaload, 1) := by decide +kernel
theorem d_law_139 : decode code 139 = .ok (.invokevirtual 21, 3) := by decide +kernel
theorem d_law_142 : decode code 142 = .ok (.aload_n 2, 1) := by decide +kernel
theorem d_law_143 : decode code 143 = .ok (.aload_n 0, 1) := by decide +kernel
theorem d_law_144 : decode code 144 = .ok (.iload_n 3, 1) := by decide +kernel
theorem d_law_145 : decode code 145 = .ok (.iconst 1, 1) := by decide +kernel
theorem d_law_146 : decode code 146 = .ok (.iadd, 1) := by decide +kernel
theorem d_law_147 : decode code 147 = .ok (.iaload, 1) := by decide +kernel
theorem d_law_148 : decode code 148 = .ok (.aload_n 0, 1) := by decide +kernel
theorem d_law_149 : decode code 149 = .ok (.iload_n 3, 1) := by decide +kernel
theorem d_law_150 : decode code 150 = .ok (.iconst 2, 1) := by decide +kernel
theorem d_law_151 : decode code 151 = .ok (.iadd, 1) := by decide +kernel
theorem d_law_152 : decode code 152 = .ok (.iaload, 1) := by decide +kernel
theorem d_law_153 : decode code 153 = .ok (.invokevirtual 25, 3) := by decide +kernel
theorem d_law_156 : decode code 156 = .ok (.if_icmp .eq 337, 3) := by decide +kernel
theorem d_law_159 : decode code 159 = .ok (.iconst 0, 1) := by decide +kernel
theorem d_law_160 : decode code 160 = .ok (.ireturn, 1) := by decide +kernel
theorem d_law_161 : decode code 161 = .ok (.aload_n 1, 1) := by decide +kernel
theorem d_law_162 : decode code 162 = .ok (.aload_n 0, 1) := by decide +kernel
theorem d_law_163 : decode code 163 = .ok (.iload_n 3, 1) := by decide +kernel
theorem d_law_164 : decode code 164 = .ok (.iconst 1, 1) := by decide +kernel
theorem d_law_165 : decode code 165 = .ok (.iadd, 1) := by decide +kernel
theorem d_law_166 : decode code 166 = .ok (.iaload, 1) := by decide +kernel
theorem d_law_167 : decode code 167 = .ok (.aload_n 0, 1) := by decide +kernel
theorem d_law_168 : decode code 168 = .ok (.iload_n 3, 1) := by decide +kernel
theorem d_law_169 : decode code 169 = .ok (.iconst 2, 1) := by decide +kernel
theorem d_law_170 : decode code 170 = .ok (.iadd, 1) := by decide +kernel
theorem d_law_171 : decode code 171 = .ok (.iaload, 1) := by decide +kernel
theorem d_law_172 : decode code 172 = .ok (.invokevirtual 26, 3) := by decide +kernel
theorem d_law_175 : decode code 175 = .ok (.aload_n 2, 1) := by decide +kernel
theorem d_law_176 : decode code 176 = .ok (.aload_n 0, 1) := by decide +kernel
theorem d_law_177 : decode code 177 = .ok (.iload_n 3, 1) := by decide +kernel
theorem d_law_178 : decode code 178 = .ok (.iconst 1, 1) := by decide +kernel
theorem d_law_179 : decode code 179 = .ok (.iadd, 1) := by decide +kernel
theorem d_law_180 : decode code 180 = .ok (.iaload, 1) := by decide +kernel
theorem d_law_181 : decode code 181 = .ok (.aload_n 0, 1) := by decide +kernel
theorem d_law_182 : decode code 182 = .ok (.iload_n 3, 1) := by decide +kernel
theorem d_law_183 : decode code 183 = .ok (.iconst 2, 1) := by decide +kernel
theorem d_law_184 : decode code 184 = .ok (.iadd, 1) := by decide +kernel
theorem d_law_185 : decode code 185 = .ok (.iaload, 1) := by decide +kernel
theorem d_law_186 : decode code 186 = .ok (.invokevirtual 29, 3) := by decide +kernel
theorem d_law_189 : decode code 189 = .ok (.if_icmp .eq 304, 3) := by decide +kernel
theorem d_law_192 : decode code 192 = .ok (.iconst 0, 1) := by decide +kernel
theorem d_law_193 : decode code 193 = .ok (.ireturn, 1) := by decide +kernel
theorem d_law_194 : decode code 194 = .ok (.aload_n 1, 1) := by decide +kernel
theorem d_law_195 : decode code 195 = .ok (.aload_n 0, 1) := by decide +kernel
theorem d_law_196 : decode code 196 = .ok (.iload_n 3, 1) := by decide +kernel
theorem d_law_197 : decode code 197 = .ok (.iconst 1, 1) := by decide +kernel
theorem d_law_198 : decode code 198 = .ok (.iadd, 1) := by decide +kernel
theorem d_law_199 : decode code 199 = .ok (.iaload, 1) := by decide +kernel
theorem d_law_200 : decode code 200 = .ok (.aload_n 0, 1) := by decide +kernel
theorem d_law_201 : decode code 201 = .ok (.iload_n 3, 1) := by decide +kernel
theorem d_law_202 : decode code 202 = .ok (.iconst 2, 1) := by decide +kernel
theorem d_law_203 : decode code 203 = .ok (.iadd, 1) := by decide +kernel
theorem d_law_204 : decode code 204 = .ok (.iaload, 1) := by decide +kernel
theorem d_law_205 : decode code 205 = .ok (.aload_n 0, 1) := by decide +kernel
end
section
-- DECODE ROWS: printed by gen/gen.py
theorem d_law_206 : decode code 206 = .ok (.iload_n 3, 1) := by decide +kernel
theorem d_law_207 : decode code 207 = .ok (.iconst 3, 1) := by decide +kernel
theorem d_law_208 : decode code 208 = .ok (.iadd, 1) := by decide +kernel
theorem d_law_209 : decode code 209 = .ok (.iaload, 1) := by decide +kernel
theorem d_law_210 : decode code 210 = .ok (.invokevirtual 30, 3) := by decide +kernel
theorem d_law_213 : decode code 213 = .ok (.aload_n 2, 1) := by decide +kernel
theorem d_law_214 : decode code 214 = .ok (.aload_n 0, 1) := by decide +kernel
theorem d_law_215 : decode code 215 = .ok (.iload_n 3, 1) := by decide +kernel
theorem d_law_216 : decode code 216 = .ok (.iconst 1, 1) := by decide +kernel
theorem d_law_217 : decode code 217 = .ok (.iadd, 1) := by decide +kernel
theorem d_law_218 : decode code 218 = .ok (.iaload, 1) := by decide +kernel
theorem d_law_219 : decode code 219 = .ok (.aload_n 0, 1) := by decide +kernel
theorem d_law_220 : decode code 220 = .ok (.iload_n 3, 1) := by decide +kernel
theorem d_law_221 : decode code 221 = .ok (.iconst 2, 1) := by decide +kernel
theorem d_law_222 : decode code 222 = .ok (.iadd, 1) := by decide +kernel
theorem d_law_223 : decode code 223 = .ok (.iaload, 1) := by decide +kernel
theorem d_law_224 : decode code 224 = .ok (.aload_n 0, 1) := by decide +kernel
theorem d_law_225 : decode code 225 = .ok (.iload_n 3, 1) := by decide +kernel
theorem d_law_226 : decode code 226 = .ok (.iconst 3, 1) := by decide +kernel
theorem d_law_227 : decode code 227 = .ok (.iadd, 1) := by decide +kernel
theorem d_law_228 : decode code 228 = .ok (.iaload, 1) := by decide +kernel
theorem d_law_229 : decode code 229 = .ok (.invokevirtual 34, 3) := by decide +kernel
theorem d_law_232 : decode code 232 = .ok (.if_icmp .eq 261, 3) := by decide +kernel
theorem d_law_235 : decode code 235 = .ok (.iconst 0, 1) := by decide +kernel
theorem d_law_236 : decode code 236 = .ok (.ireturn, 1) := by decide +kernel
theorem d_law_237 : decode code 237 = .ok (.aload_n 1, 1) := by decide +kernel
theorem d_law_238 : decode code 238 = .ok (.aload_n 0, 1) := by decide +kernel
theorem d_law_239 : decode code 239 = .ok (.iload_n 3, 1) := by decide +kernel
theorem d_law_240 : decode code 240 = .ok (.iconst 1, 1) := by decide +kernel
theorem d_law_241 : decode code 241 = .ok (.iadd, 1) := by decide +kernel
theorem d_law_242 : decode code 242 = .ok (.iaload, 1) := by decide +kernel
theorem d_law_243 : decode code 243 = .ok (.invokevirtual 35, 3) := by decide +kernel
theorem d_law_246 : decode code 246 = .ok (.aload_n 2, 1) := by decide +kernel
theorem d_law_247 : decode code 247 = .ok (.aload_n 0, 1) := by decide +kernel
theorem d_law_248 : decode code 248 = .ok (.iload_n 3, 1) := by decide +kernel
theorem d_law_249 : decode code 249 = .ok (.iconst 1, 1) := by decide +kernel
theorem d_law_250 : decode code 250 = .ok (.iadd, 1) := by decide +kernel
theorem d_law_251 : decode code 251 = .ok (.iaload, 1) := by decide +kernel
theorem d_law_252 : decode code 252 = .ok (.invokevirtual 39, 3) := by decide +kernel
theorem d_law_255 : decode code 255 = .ok (.if_icmp .eq 238, 3) := by decide +kernel
theorem d_law_258 : decode code 258 = .ok (.iconst 0, 1) := by decide +kernel
theorem d_law_259 : decode code 259 = .ok (.ireturn, 1) := by decide +kernel
theorem d_law_260 : decode code 260 = .ok (.aload_n 1, 1) := by decide +kernel
theorem d_law_261 : decode code 261 = .ok (.aload_n 0, 1) := by decide +kernel
theorem d_law_262 : decode code 262 = .ok (.iload_n 3, 1) := by decide +kernel
theorem d_law_263 : decode code 263 = .ok (.iconst 1, 1) := by decide +kernel
theorem d_law_264 : decode code 264 = .ok (.iadd, 1) := by decide +kernel
theorem d_law_265 : decode code 265 = .ok (.iaload, 1) := by decide +kernel
theorem d_law_266 : decode code 266 = .ok (.aload_n 0, 1) := by decide +kernel
theorem d_law_267 : decode code 267 = .ok (.iload_n 3, 1) := by decide +kernel
theorem d_law_268 : decode code 268 = .ok (.iconst 2, 1) := by decide +kernel
theorem d_law_269 : decode code 269 = .ok (.iadd, 1) := by decide +kernel
theorem d_law_270 : decode code 270 = .ok (.iaload, 1) := by decide +kernel
theorem d_law_271 : decode code 271 = .ok (.invokevirtual 40, 3) := by decide +kernel
theorem d_law_274 : decode code 274 = .ok (.aload_n 2, 1) := by decide +kernel
theorem d_law_275 : decode code 275 = .ok (.aload_n 0, 1) := by decide +kernel
theorem d_law_276 : decode code 276 = .ok (.iload_n 3, 1) := by decide +kernel
theorem d_law_277 : decode code 277 = .ok (.iconst 1, 1) := by decide +kernel
theorem d_law_278 : decode code 278 = .ok (.iadd, 1) := by decide +kernel
theorem d_law_279 : decode code 279 = .ok (.iaload, 1) := by decide +kernel
theorem d_law_280 : decode code 280 = .ok (.aload_n 0, 1) := by decide +kernel
theorem d_law_281 : decode code 281 = .ok (.iload_n 3, 1) := by decide +kernel
theorem d_law_282 : decode code 282 = .ok (.iconst 2, 1) := by decide +kernel
theorem d_law_283 : decode code 283 = .ok (.iadd, 1) := by decide +kernel
theorem d_law_284 : decode code 284 = .ok (.iaload, 1) := by decide +kernel
theorem d_law_285 : decode code 285 = .ok (.invokevirtual 43, 3) := by decide +kernel
theorem d_law_288 : decode code 288 = .ok (.if_icmp .eq 205, 3) := by decide +kernel
theorem d_law_291 : decode code 291 = .ok (.iconst 0, 1) := by decide +kernel
theorem d_law_292 : decode code 292 = .ok (.ireturn, 1) := by decide +kernel
theorem d_law_293 : decode code 293 = .ok (.aload_n 1, 1) := by decide +kernel
theorem d_law_294 : decode code 294 = .ok (.aload_n 0, 1) := by decide +kernel
theorem d_law_295 : decode code 295 = .ok (.iload_n 3, 1) := by decide +kernel
theorem d_law_296 : decode code 296 = .ok (.iconst 1, 1) := by decide +kernel
theorem d_law_297 : decode code 297 = .ok (.iadd, 1) := by decide +kernel
theorem d_law_298 : decode code 298 = .ok (.iaload, 1) := by decide +kernel
theorem d_law_299 : decode code 299 = .ok (.invokevirtual 44, 3) := by decide +kernel
theorem d_law_302 : decode code 302 = .ok (.aload_n 2, 1) := by decide +kernel
theorem d_law_303 : decode code 303 = .ok (.aload_n 0, 1) := by decide +kernel
theorem d_law_304 : decode code 304 = .ok (.iload_n 3, 1) := by decide +kernel
theorem d_law_305 : decode code 305 = .ok (.iconst 1, 1) := by decide +kernel
theorem d_law_306 : decode code 306 = .ok (.iadd, 1) := by decide +kernel
theorem d_law_307 : decode code 307 = .ok (.iaload, 1) := by decide +kernel
theorem d_law_308 : decode code 308 = .ok (.invokevirtual 47, 3) := by decide +kernel
theorem d_law_311 : decode code 311 = .ok (.if_icmp .eq 182, 3) := by decide +kernel
theorem d_law_314 : decode code 314 = .ok (.iconst 0, 1) := by decide +kernel
theorem d_law_315 : decode code 315 = .ok (.ireturn, 1) := by decide +kernel
theorem d_law_316 : decode code 316 = .ok (.aload_n 1, 1) := by decide +kernel
theorem d_law_317 : decode code 317 = .ok (.invokevirtual 48, 3) := by decide +kernel
theorem d_law_320 : decode code 320 = .ok (.aload_n 2, 1) := by decide +kernel
theorem d_law_321 : decode code 321 = .ok (.invokevirtual 52, 3) := by decide +kernel
theorem d_law_324 : decode code 324 = .ok (.if_icmp .eq 169, 3) := by decide +kernel
theorem d_law_327 : decode code 327 = .ok (.iconst 0, 1) := by decide +kernel
theorem d_law_328 : decode code 328 = .ok (.ireturn, 1) := by decide +kernel
theorem d_law_329 : decode code 329 = .ok (.aload_n 1, 1) := by decide +kernel
theorem d_law_330 : decode code 330 = .ok (.aload_n 0, 1) := by decide +kernel
theorem d_law_331 : decode code 331 = .ok (.iload_n 3, 1) := by decide +kernel
theorem d_law_332 : decode code 332 = .ok (.iconst 1, 1) := by decide +kernel
theorem d_law_333 : decode code 333 = .ok (.iadd, 1) := by decide +kernel
theorem d_law_334 : decode code 334 = .ok (.iaload, 1) := by decide +kernel
theorem d_law_335 : decode code 335 = .ok (.invokevirtual 53, 3) := by decide +kernel
theorem d_law_338 : decode code 338 = .ok (.aload_n 2, 1) := by decide +kernel
theorem d_law_339 : decode code 339 = .ok (.aload_n 0, 1) := by decide +kernel
theorem d_law_340 : decode code 340 = .ok (.iload_n 3, 1) := by decide +kernel
theorem d_law_341 : decode code 341 = .ok (.iconst 1, 1) := by decide +kernel
theorem d_law_342 : decode code 342 = .ok (.iadd, 1) := by decide +kernel
theorem d_law_343 : decode code 343 = .ok (.iaload, 1) := by decide +kernel
theorem d_law_344 : decode code 344 = .ok (.invokevirtual 57, 3) := by decide +kernel
theorem d_law_347 : decode code 347 = .ok (.if_icmp .eq 146, 3) := by decide +kernel
theorem d_law_350 : decode code 350 = .ok (.iconst 0, 1) := by decide +kernel
theorem d_law_351 : decode code 351 = .ok (.ireturn, 1) := by decide +kernel
end
section
-- DECODE ROWS: printed by gen/gen.py
theorem d_law_352 : decode code 352 = .ok (.aload_n 1, 1) := by decide +kernel
theorem d_law_353 : decode code 353 = .ok (.aload_n 0, 1) := by decide +kernel
theorem d_law_354 : decode code 354 = .ok (.iload_n 3, 1) := by decide +kernel
theorem d_law_355 : decode code 355 = .ok (.iconst 1, 1) := by decide +kernel
theorem d_law_356 : decode code 356 = .ok (.iadd, 1) := by decide +kernel
theorem d_law_357 : decode code 357 = .ok (.iaload, 1) := by decide +kernel
theorem d_law_358 : decode code 358 = .ok (.invokevirtual 58, 3) := by decide +kernel
theorem d_law_361 : decode code 361 = .ok (.aload_n 2, 1) := by decide +kernel
theorem d_law_362 : decode code 362 = .ok (.aload_n 0, 1) := by decide +kernel
theorem d_law_363 : decode code 363 = .ok (.iload_n 3, 1) := by decide +kernel
theorem d_law_364 : decode code 364 = .ok (.iconst 1, 1) := by decide +kernel
theorem d_law_365 : decode code 365 = .ok (.iadd, 1) := by decide +kernel
theorem d_law_366 : decode code 366 = .ok (.iaload, 1) := by decide +kernel
theorem d_law_367 : decode code 367 = .ok (.invokevirtual 61, 3) := by decide +kernel
theorem d_law_370 : decode code 370 = .ok (.if_icmp .eq 123, 3) := by decide +kernel
theorem d_law_373 : decode code 373 = .ok (.iconst 0, 1) := by decide +kernel
theorem d_law_374 : decode code 374 = .ok (.ireturn, 1) := by decide +kernel
theorem d_law_375 : decode code 375 = .ok (.aload_n 1, 1) := by decide +kernel
theorem d_law_376 : decode code 376 = .ok (.invokevirtual 62, 3) := by decide +kernel
theorem d_law_379 : decode code 379 = .ok (.aload_n 2, 1) := by decide +kernel
theorem d_law_380 : decode code 380 = .ok (.invokevirtual 65, 3) := by decide +kernel
theorem d_law_383 : decode code 383 = .ok (.if_icmp .eq 110, 3) := by decide +kernel
theorem d_law_386 : decode code 386 = .ok (.iconst 0, 1) := by decide +kernel
theorem d_law_387 : decode code 387 = .ok (.ireturn, 1) := by decide +kernel
theorem d_law_388 : decode code 388 = .ok (.aload_n 1, 1) := by decide +kernel
theorem d_law_389 : decode code 389 = .ok (.invokevirtual 66, 3) := by decide +kernel
theorem d_law_392 : decode code 392 = .ok (.aload_n 2, 1) := by decide +kernel
theorem d_law_393 : decode code 393 = .ok (.invokevirtual 69, 3) := by decide +kernel
theorem d_law_396 : decode code 396 = .ok (.if_icmp .eq 97, 3) := by decide +kernel
theorem d_law_399 : decode code 399 = .ok (.iconst 0, 1) := by decide +kernel
theorem d_law_400 : decode code 400 = .ok (.ireturn, 1) := by decide +kernel
theorem d_law_401 : decode code 401 = .ok (.aload_n 1, 1) := by decide +kernel
theorem d_law_402 : decode code 402 = .ok (.aload_n 0, 1) := by decide +kernel
theorem d_law_403 : decode code 403 = .ok (.iload_n 3, 1) := by decide +kernel
theorem d_law_404 : decode code 404 = .ok (.iconst 1, 1) := by decide +kernel
theorem d_law_405 : decode code 405 = .ok (.iadd, 1) := by decide +kernel
theorem d_law_406 : decode code 406 = .ok (.iaload, 1) := by decide +kernel
theorem d_law_407 : decode code 407 = .ok (.invokevirtual 70, 3) := by decide +kernel
theorem d_law_410 : decode code 410 = .ok (.aload_n 2, 1) := by decide +kernel
theorem d_law_411 : decode code 411 = .ok (.aload_n 0, 1) := by decide +kernel
theorem d_law_412 : decode code 412 = .ok (.iload_n 3, 1) := by decide +kernel
theorem d_law_413 : decode code 413 = .ok (.iconst 1, 1) := by decide +kernel
theorem d_law_414 : decode code 414 = .ok (.iadd, 1) := by decide +kernel
theorem d_law_415 : decode code 415 = .ok (.iaload, 1) := by decide +kernel
theorem d_law_416 : decode code 416 = .ok (.invokevirtual 73, 3) := by decide +kernel
theorem d_law_419 : decode code 419 = .ok (.if_icmp .eq 74, 3) := by decide +kernel
theorem d_law_422 : decode code 422 = .ok (.iconst 0, 1) := by decide +kernel
theorem d_law_423 : decode code 423 = .ok (.ireturn, 1) := by decide +kernel
theorem d_law_424 : decode code 424 = .ok (.aload_n 1, 1) := by decide +kernel
theorem d_law_425 : decode code 425 = .ok (.aload_n 0, 1) := by decide +kernel
theorem d_law_426 : decode code 426 = .ok (.iload_n 3, 1) := by decide +kernel
theorem d_law_427 : decode code 427 = .ok (.iconst 1, 1) := by decide +kernel
theorem d_law_428 : decode code 428 = .ok (.iadd, 1) := by decide +kernel
theorem d_law_429 : decode code 429 = .ok (.iaload, 1) := by decide +kernel
theorem d_law_430 : decode code 430 = .ok (.invokevirtual 74, 3) := by decide +kernel
theorem d_law_433 : decode code 433 = .ok (.aload_n 2, 1) := by decide +kernel
theorem d_law_434 : decode code 434 = .ok (.aload_n 0, 1) := by decide +kernel
theorem d_law_435 : decode code 435 = .ok (.iload_n 3, 1) := by decide +kernel
theorem d_law_436 : decode code 436 = .ok (.iconst 1, 1) := by decide +kernel
theorem d_law_437 : decode code 437 = .ok (.iadd, 1) := by decide +kernel
theorem d_law_438 : decode code 438 = .ok (.iaload, 1) := by decide +kernel
theorem d_law_439 : decode code 439 = .ok (.invokevirtual 77, 3) := by decide +kernel
theorem d_law_442 : decode code 442 = .ok (.if_icmp .eq 51, 3) := by decide +kernel
theorem d_law_445 : decode code 445 = .ok (.iconst 0, 1) := by decide +kernel
theorem d_law_446 : decode code 446 = .ok (.ireturn, 1) := by decide +kernel
theorem d_law_447 : decode code 447 = .ok (.aload_n 1, 1) := by decide +kernel
theorem d_law_448 : decode code 448 = .ok (.aload_n 0, 1) := by decide +kernel
theorem d_law_449 : decode code 449 = .ok (.iload_n 3, 1) := by decide +kernel
theorem d_law_450 : decode code 450 = .ok (.iconst 1, 1) := by decide +kernel
theorem d_law_451 : decode code 451 = .ok (.iadd, 1) := by decide +kernel
theorem d_law_452 : decode code 452 = .ok (.iaload, 1) := by decide +kernel
theorem d_law_453 : decode code 453 = .ok (.invokevirtual 78, 3) := by decide +kernel
theorem d_law_456 : decode code 456 = .ok (.aload_n 2, 1) := by decide +kernel
theorem d_law_457 : decode code 457 = .ok (.aload_n 0, 1) := by decide +kernel
theorem d_law_458 : decode code 458 = .ok (.iload_n 3, 1) := by decide +kernel
theorem d_law_459 : decode code 459 = .ok (.iconst 1, 1) := by decide +kernel
theorem d_law_460 : decode code 460 = .ok (.iadd, 1) := by decide +kernel
theorem d_law_461 : decode code 461 = .ok (.iaload, 1) := by decide +kernel
theorem d_law_462 : decode code 462 = .ok (.invokevirtual 81, 3) := by decide +kernel
theorem d_law_465 : decode code 465 = .ok (.if_icmp .eq 28, 3) := by decide +kernel
theorem d_law_468 : decode code 468 = .ok (.iconst 0, 1) := by decide +kernel
theorem d_law_469 : decode code 469 = .ok (.ireturn, 1) := by decide +kernel
theorem d_law_470 : decode code 470 = .ok (.aload_n 1, 1) := by decide +kernel
theorem d_law_471 : decode code 471 = .ok (.aload_n 0, 1) := by decide +kernel
theorem d_law_472 : decode code 472 = .ok (.iload_n 3, 1) := by decide +kernel
theorem d_law_473 : decode code 473 = .ok (.iconst 1, 1) := by decide +kernel
theorem d_law_474 : decode code 474 = .ok (.iadd, 1) := by decide +kernel
theorem d_law_475 : decode code 475 = .ok (.iaload, 1) := by decide +kernel
theorem d_law_476 : decode code 476 = .ok (.invokevirtual 82, 3) := by decide +kernel
theorem d_law_479 : decode code 479 = .ok (.aload_n 2, 1) := by decide +kernel
theorem d_law_480 : decode code 480 = .ok (.aload_n 0, 1) := by decide +kernel
theorem d_law_481 : decode code 481 = .ok (.iload_n 3, 1) := by decide +kernel
theorem d_law_482 : decode code 482 = .ok (.iconst 1, 1) := by decide +kernel
theorem d_law_483 : decode code 483 = .ok (.iadd, 1) := by decide +kernel
theorem d_law_484 : decode code 484 = .ok (.iaload, 1) := by decide +kernel
theorem d_law_485 : decode code 485 = .ok (.invokevirtual 85, 3) := by decide +kernel
theorem d_law_488 : decode code 488 = .ok (.if_icmp .eq 5, 3) := by decide +kernel
theorem d_law_491 : decode code 491 = .ok (.iconst 0, 1) := by decide +kernel
theorem d_law_492 : decode code 492 = .ok (.ireturn, 1) := by decide +kernel
theorem d_law_493 : decode code 493 = .ok (.iinc 3 4, 3) := by decide +kernel
theorem d_law_496 : decode code 496 = .ok (.goto (-458), 3) := by decide +kernel
theorem d_law_499 : decode code 499 = .ok (.iconst 1, 1) := by decide +kernel
theorem d_law_500 : decode code 500 = .ok (.ireturn, 1) := by decide +kernel
end
section
-- THE JUDGEMENT J: the machine at a frame, over a pure state S (array number, place) of whole numbers; printed by gen/jlayer.py
abbrev St : Type := Nat → Int → Int
def s2 (S : St) (a : Nat) (i v : Int) : St := fun b j => if b = a ∧ j = i then v else S b j
theorem s2_eq (S : St) (a : Nat) (i v : Int) : s2 S a i v a i = v := if_pos ⟨rfl, rfl⟩
theorem s2_ne {S : St} {a b : Nat} {i j v : Int} (h : ¬ (b = a ∧ j = i)) : s2 S a i v b j = S b j := if_neg h
theorem s2_bd {S : St} {a : Nat} {j v lo hi : Int} (h : ∀ i, lo ≤ S a i ∧ S a i ≤ hi) (h1 : lo ≤ v) (h2 : v ≤ hi) : ∀ i, lo ≤ s2 S a j v a i ∧ s2 S a j v a i ≤ hi := by
  intro i
  by_cases e : i = j
  · subst e; rw [s2_eq]; exact ⟨h1, h2⟩
  · rw [s2_ne (fun q => e q.2)]; exact h i
abbrev Gm : Type := va_G × (Nat → Nat) × ClassId × ClassId × ClassId
def vI (x : Int) : Value := .int (Int32.ofInt x)
def ar (S : St) (a : Nat) : Nat → Int32 := fun j => Int32.ofInt (S a j)
def tysOf (Z : Gm) : List (ClassId × FieldType) := [(Z.2.2.1, .boolean), (Z.2.2.2.1, .byte), (Z.2.2.2.2, .int)]
def rmk (k : Nat) : Room := { frames := k, cells := 0, slots := 0, locals := 27 * k }
abbrev Cx : Type := Program × Launch × Env × Room × State × MethodId × Array Value × List Frame × Method × Code × Gm × (Nat → Prop) × (Gm → St → va_W) × (St → Prop)
def xP (X : Cx) : Program := X.1
def xL (X : Cx) : Launch := X.2.1
def xE (X : Cx) : Env := X.2.2.1
def xR (X : Cx) : Room := X.2.2.2.1
def xS (X : Cx) : State := X.2.2.2.2.1
def xM (X : Cx) : MethodId := X.2.2.2.2.2.1
def xV (X : Cx) : Array Value := X.2.2.2.2.2.2.1
def xB (X : Cx) : List Frame := X.2.2.2.2.2.2.2.1
def xMeth (X : Cx) : Method := X.2.2.2.2.2.2.2.2.1
def xC (X : Cx) : Code := X.2.2.2.2.2.2.2.2.2.1
def xZ (X : Cx) : Gm := X.2.2.2.2.2.2.2.2.2.2.1
def xA (X : Cx) : Nat → Prop := X.2.2.2.2.2.2.2.2.2.2.2.1
def xW (X : Cx) : Gm → St → va_W := X.2.2.2.2.2.2.2.2.2.2.2.2.1
def xok (X : Cx) : St → Prop := X.2.2.2.2.2.2.2.2.2.2.2.2.2
def gA (X : Cx) (i : Nat) : Nat := (xZ X).2.1 i
def lo_has (ls : Array Slot) (nL : Nat) (L : List (Option Value)) : Prop := ls.size = nL ∧ lv_wf ls ∧ ∀ (i : Nat) (v : Value), L[i]? = some (some v) → ls[i]? = some (.val v) ∧ v.category = 1
def QcJ (ret : Option FieldType) (WW : Gm → St → va_W) (ok : St → Prop) (Z : Gm) (A : Nat → Prop) (post : Int → St → Prop) : Array Value → State → Outcome → State → Prop := match ret with
  | none => va_Qv (S := St) (fun u => post 0 u ∧ ok u) (fun u t => va_P Z.1 classes (WW Z u) t.heap ∧ va_K Z.1 classes (tysOf Z) t ∧ va_D A (WW Z u)) A
  | some _ => va_Qi (S := St) (fun r u => ∃ z : Int, r = Int32.ofInt z ∧ post z u ∧ ok u) (fun u t => va_P Z.1 classes (WW Z u) t.heap ∧ va_K Z.1 classes (tysOf Z) t ∧ va_D A (WW Z u)) A
def J (X : Cx) (nL : Nat) (ret : Option FieldType) (post : Int → St → Prop) (S : St) (pc : Nat) (L : List (Option Value)) (st : List Value) : Prop :=
  xok X S → ∀ (H : Heap) (locs : List Loc) (ls : Array Slot), va_P (xZ X).1 classes (xW X (xZ X) S) H → va_D (xA X) (xW X (xZ X) S) → va_S (xA X) (xS X).heap H locs → lo_has ls nL L →
    W (xP X) (xL X) (xE X) (xR X) (xS X) (xM X) (xV X) (xB X) (xMeth X) (xC X) H locs 0 0 (MQ (xB X) (QcJ ret (xW X) (xok X) (xZ X) (xA X) post) (xV X) (xS X) 0 0 (xA X)) (F0 (xM X) pc ls st)
def CX (X : Cx) (own : String) (cc : ByteArray) (nL : Nat) (ret : Option FieldType) (lev : Nat) : Prop :=
  (xP X).tables.exec = Jvm.exec ∧ (xC X).code = cc ∧ (xC X).maxLocals = nL ∧ (xMeth X).sig.returnType = ret ∧ (xMeth X).locks = false ∧ (xS X).vm.findClass own = some (xM X).cls ∧ (∀ w ∈ gw_tbl, w.before (xV X) (xS X) = true) ∧ va_K (xZ X).1 classes (tysOf (xZ X)) (xS X) ∧ (∀ q, (xS X).heap.size ≤ q → xA X q) ∧ xR X = rmk lev
-- Int32 and whole numbers
theorem oi_t {x : Int} (h1 : -2147483648 ≤ x) (h2 : x ≤ 2147483647) : (Int32.ofInt x).toInt = x := Int32.toInt_ofInt_of_le (by omega) (by omega)
theorem oi_le {x y : Int} (h1 : -2147483648 ≤ x) (h2 : x ≤ 2147483647) (h3 : -2147483648 ≤ y) (h4 : y ≤ 2147483647) : Int32.ofInt x ≤ Int32.ofInt y ↔ x ≤ y := by
  rw [Int32.le_iff_toInt_le, oi_t h1 h2, oi_t h3 h4]
theorem oi_lt {x y : Int} (h1 : -2147483648 ≤ x) (h2 : x ≤ 2147483647) (h3 : -2147483648 ≤ y) (h4 : y ≤ 2147483647) : Int32.ofInt x < Int32.ofInt y ↔ x < y := by
  rw [Int32.lt_iff_toInt_lt, oi_t h1 h2, oi_t h3 h4]
theorem oi_eq {x y : Int} (h1 : -2147483648 ≤ x) (h2 : x ≤ 2147483647) (h3 : -2147483648 ≤ y) (h4 : y ≤ 2147483647) : Int32.ofInt x = Int32.ofInt y ↔ x = y := by
  rw [← Int32.toInt_inj, oi_t h1 h2, oi_t h3 h4]
theorem oi_0 : (0 : Int32) = Int32.ofInt 0 := by decide
theorem oi_clamp {x : Int} (h1 : 0 ≤ x) (h2 : x ≤ 2147483647) : (Int32.ofInt x).toNatClampNeg = x.toNat := by
  show (Int32.ofInt x).toInt.toNat = x.toNat
  rw [oi_t (by omega) h2]
theorem oi_in {x : Int} {n : Nat} (h1 : 0 ≤ x) (h2 : x < n) (h3 : n < 2147483648) : vp_in (Int32.ofInt x) n := by
  intro h
  rcases h with h | h
  · rw [oi_0, oi_lt (by omega) (by omega) (by omega) (by omega)] at h
    omega
  · rw [oi_clamp h1 (by omega)] at h
    omega
theorem oi_b {x : Int} (h1 : -128 ≤ x) (h2 : x ≤ 127) : (Int32.ofInt x).toInt8.toInt32 = Int32.ofInt x := by
  have : ∀ k : Fin 256, (Int32.ofInt ((k.val : Int) - 128)).toInt8.toInt32 = Int32.ofInt ((k.val : Int) - 128) := by decide +kernel
  have h := this ⟨(x + 128).toNat, by omega⟩
  have e : (((x + 128).toNat : Nat) : Int) - 128 = x := by omega
  simp only [e] at h
  exact h
theorem oi_nb {x : Int} (h1 : -128 ≤ x) (h2 : x ≤ 127) : vp_nar .byte (Int32.ofInt x) = Int32.ofInt x := by
  rw [vp_nar_byte, oi_b h1 h2]
theorem oi_nz {x : Int} (h1 : 0 ≤ x) (h2 : x ≤ 1) : vp_nar .boolean (Int32.ofInt x) = Int32.ofInt x := by
  rcases (show x = 0 ∨ x = 1 by omega) with rfl | rfl <;> decide
theorem oi_z {x : Int} (h1 : 0 ≤ x) (h2 : x ≤ 1) : narrow .boolean (.int (Int32.ofInt x)) = .int (Int32.ofInt x) := by
  rcases (show x = 0 ∨ x = 1 by omega) with rfl | rfl <;> decide
theorem oi_fz {x : Int} (h1 : 0 ≤ x) (h2 : x ≤ 1) : fits .boolean (.int (Int32.ofInt x)) = true := by
  rcases (show x = 0 ∨ x = 1 by omega) with rfl | rfl <;> decide
theorem ar_s2 (S : St) (a : Nat) {i v : Int} (h0 : 0 ≤ i) : upd (ar S a) i.toNat (Int32.ofInt v) = ar (s2 S a i v) a := by
  funext j
  by_cases h : j = i.toNat
  · subst h
    simp only [upd, ar, s2, if_true]
    rw [if_pos ⟨trivial, by omega⟩]
  · simp only [upd, ar, s2]
    rw [if_neg h, if_neg (by intro q; apply h; omega)]
theorem ar_s2n (S : St) {a b : Nat} {i v : Int} (h : b ≠ a) : ar (s2 S a i v) b = ar S b := by
  funext j
  simp only [ar, s2]
  rw [if_neg (by intro q; exact h q.1)]
-- locals
def lo_p (L : List (Option Value)) : List (Nat × Value) := (List.range L.length).filterMap (fun j => match L[j]? with | some (some w) => some (j, w) | _ => none)
theorem lo_p_mem {L : List (Option Value)} {q : Nat × Value} : q ∈ lo_p L ↔ L[q.1]? = some (some q.2) := by
  unfold lo_p
  rw [List.mem_filterMap]
  constructor
  · rintro ⟨j, -, h⟩
    cases hj : L[j]? with
    | none => simp [hj] at h
    | some x =>
      cases x with
      | none => simp [hj] at h
      | some y =>
        simp [hj] at h
        subst h
        exact hj
  · intro h
    refine ⟨q.1, List.mem_range.mpr ?_, by simp [h]⟩
    exact (List.getElem?_eq_some_iff.mp h).1
theorem lo_lv {ls : Array Slot} {nL : Nat} {L : List (Option Value)} (h : lo_has ls nL L) : lv_has ls nL (lo_p L) := ⟨h.1, h.2.1, fun q hq => (h.2.2 q.1 q.2 (lo_p_mem.mp hq)).1⟩
theorem lo_set {ls : Array Slot} {nL i : Nat} {v : Value} {L : List (Option Value)} {f : Nat × Value → Bool} (hc : v.category = 1) (h0 : lo_has ls nL L) {ls' : Array Slot} (hf : ∀ q : Nat × Value, q.1 ≠ i → q.2.category = 1 → f q = true)
    (h : lv_has ls' nL ((i, v) :: (lo_p L).filter f)) : lo_has ls' nL (L.set i (some v)) := by
  refine ⟨h.1, h.2.1, fun j w hj => ?_⟩
  by_cases e : i = j
  · subst e
    rw [List.getElem?_set] at hj
    by_cases hl : i < L.length
    · simp [hl] at hj
      subst hj
      exact ⟨h.2.2 (i, v) List.mem_cons_self, hc⟩
    · simp [hl] at hj
  · rw [List.getElem?_set_ne e] at hj
    have hm := h0.2.2 j w hj
    refine ⟨h.2.2 (j, w) (List.mem_cons_of_mem _ (List.mem_filter.mpr ⟨lo_p_mem.mpr hj, hf _ (fun q => e q.symm) hm.2⟩)), hm.2⟩
theorem lo_f (i : Nat) : ∀ q : Nat × Value, q.1 ≠ i → q.2.category = 1 → (fun q : Nat × Value => !(q.1 == i) && !(q.1 + 1 == i && q.2.category == 2)) q = true := by
  intro q h1 h2
  simp [h1, h2]
theorem lo_entry (vs : List Value) {n : Nat} (hc : ∀ v ∈ vs, v.category = 1) (h : vs.length ≤ n) : lo_has ((lg_sl vs ++ List.replicate (n - (lg_sl vs).length) Slot.unset).toArray) n (vs.map some ++ List.replicate (n - vs.length) none) := by
  have hsl : ∀ us : List Value, (∀ v ∈ us, v.category = 1) → lg_sl us = us.map Slot.val := by
    intro us
    induction us with
    | nil => intro _; rfl
    | cons v t ih =>
      intro hu
      have h1 := hu v List.mem_cons_self
      show (if v.category = 2 then [Slot.val v, Slot.second] else [Slot.val v]) ++ lg_sl t = _
      rw [if_neg (by omega), ih (fun w hw => hu w (List.mem_cons_of_mem _ hw))]
      rfl
  have hlen : (lg_sl vs).length = vs.length := by rw [hsl vs hc, List.length_map]
  have hL := lv_entry vs (n := n) (by rw [hlen]; exact h)
  refine ⟨hL.1, hL.2.1, fun i v hi => ?_⟩
  have hlt : i < vs.length := by
    rcases Nat.lt_or_ge i vs.length with q | q
    · exact q
    · rw [List.getElem?_append_right (by simpa using q)] at hi
      rw [List.getElem?_replicate] at hi
      split at hi <;> simp at hi
  rw [List.getElem?_append_left (by simpa using hlt), List.getElem?_map] at hi
  have hv : vs[i]? = some v := by
    cases hq : vs[i]? with
    | none => rw [hq] at hi; simp at hi
    | some x => rw [hq] at hi; simp at hi; rw [hi]
  refine ⟨?_, hc v (List.mem_of_getElem? hv)⟩
  rw [hsl vs hc]
  simp only [List.getElem?_toArray]
  rw [List.getElem?_append_left (by simpa using hlt), List.getElem?_map, hv]
  rfl

section JR
variable {X : Cx} {own : String} {cc : ByteArray} {nL lev pc : Nat} {ret : Option FieldType} {post : Int → St → Prop} {S : St} {L : List (Option Value)} {st : List Value}
/-- less may be known of the locals -/
theorem J.mono {L' : List (Option Value)} (h : ∀ (i : Nat) (v : Value), L'[i]? = some (some v) → L[i]? = some (some v)) (k : J X nL ret post S pc L' st) : J X nL ret post S pc L st :=
  fun ho H locs ls hP hD hS hl => k ho H locs ls hP hD hS ⟨hl.1, hl.2.1, fun i v hi => hl.2.2 i v (h i v hi)⟩
theorem J.eqs {S' : St} (h : S = S') (k : J X nL ret post S' pc L st) : J X nL ret post S pc L st := h ▸ k
/-- what the state's bounds say -/
theorem J.ok (k : xok X S → J X nL ret post S pc L st) : J X nL ret post S pc L st := fun ho => k ho ho
theorem j_iconst (hC : CX X own cc nL ret lev) {n : Int} (hd : decode cc pc = .ok (.iconst n, 1)) (k : J X nL ret post S (pc + 1) L (vI n :: st)) : J X nL ret post S pc L st :=
  fun ho H locs ls hP hD hS hl => lv_iconst hC.1 hC.2.1 hd rfl (k ho H locs ls hP hD hS hl)
theorem j_bipush (hC : CX X own cc nL ret lev) {n : Int} (hd : decode cc pc = .ok (.bipush n, 2)) (hv : (Int8.ofInt n).toInt32 = Int32.ofInt n := by decide) (k : J X nL ret post S (pc + 2) L (vI n :: st)) : J X nL ret post S pc L st :=
  fun ho H locs ls hP hD hS hl => lv_bipush hC.1 hC.2.1 hd hv (k ho H locs ls hP hD hS hl)
theorem j_sipush (hC : CX X own cc nL ret lev) {n : Int} (hd : decode cc pc = .ok (.sipush n, 3)) (hv : (Int16.ofInt n).toInt32 = Int32.ofInt n := by decide) (k : J X nL ret post S (pc + 3) L (vI n :: st)) : J X nL ret post S pc L st :=
  fun ho H locs ls hP hD hS hl => lv_sipush hC.1 hC.2.1 hd hv (k ho H locs ls hP hD hS hl)
theorem j_iload_n (hC : CX X own cc nL ret lev) {k : Fin 4} {x : Int} (hd : decode cc pc = .ok (.iload_n k, 1)) (hL : L[(k : Nat)]? = some (some (vI x))) (kk : J X nL ret post S (pc + 1) L (vI x :: st)) : J X nL ret post S pc L st :=
  fun ho H locs ls hP hD hS hl => lv_iload_n hC.1 hC.2.1 hd rfl (hl.2.2 _ _ hL).1 (kk ho H locs ls hP hD hS hl)
theorem j_iload (hC : CX X own cc nL ret lev) {i : Nat} {x : Int} (hd : decode cc pc = .ok (.iload i, 2)) (hL : L[i]? = some (some (vI x))) (kk : J X nL ret post S (pc + 2) L (vI x :: st)) : J X nL ret post S pc L st :=
  fun ho H locs ls hP hD hS hl => lv_iload hC.1 hC.2.1 hd (hl.2.2 _ _ hL).1 (kk ho H locs ls hP hD hS hl)
theorem j_aload_n (hC : CX X own cc nL ret lev) {k : Fin 4} {x : Nat} (hd : decode cc pc = .ok (.aload_n k, 1)) (hL : L[(k : Nat)]? = some (some (.ref x))) (kk : J X nL ret post S (pc + 1) L (.ref x :: st)) : J X nL ret post S pc L st :=
  fun ho H locs ls hP hD hS hl => lv_aload_n hC.1 hC.2.1 hd rfl (hl.2.2 _ _ hL).1 (kk ho H locs ls hP hD hS hl)
theorem j_istore_g (hC : CX X own cc nL ret lev) {k : Fin 4} {x : Int} (hd : decode cc pc = .ok (.istore_n k, 1)) (hn : (k : Nat) < nL) (kk : J X nL ret post S (pc + 1) (L.set (k : Nat) (some (vI x))) st) : J X nL ret post S pc L (vI x :: st) :=
  fun ho H locs ls hP hD hS hl => lv_istore_n hC.1 hC.2.1 hd rfl (lo_lv hl) hn rfl (fun ls' hl' => kk ho H locs ls' hP hD hS (lo_set rfl hl (lo_f _) hl'))
theorem j_istore_h (hC : CX X own cc nL ret lev) {i : Nat} {x : Int} (hd : decode cc pc = .ok (.istore i, 2)) (hn : i < nL) (kk : J X nL ret post S (pc + 2) (L.set i (some (vI x))) st) : J X nL ret post S pc L (vI x :: st) :=
  fun ho H locs ls hP hD hS hl => lv_istore hC.1 hC.2.1 hd (lo_lv hl) hn rfl (fun ls' hl' => kk ho H locs ls' hP hD hS (lo_set rfl hl (lo_f _) hl'))
theorem j_iinc_g (hC : CX X own cc nL ret lev) {i : Nat} {n x : Int} (hd : decode cc pc = .ok (.iinc i n, 3)) (hL : L[i]? = some (some (vI x))) (hn : i < nL) (kk : J X nL ret post S (pc + 3) (L.set i (some (vI (x + n)))) st) : J X nL ret post S pc L st :=
  fun ho H locs ls hP hD hS hl => by
    obtain ⟨k, hk⟩ := List.getElem?_of_mem (lo_p_mem (q := (i, vI x)).mpr hL)
    exact lv_iinc hC.1 hC.2.1 hd (lo_lv hl) hk (Int32.ofInt_add x n).symm hn rfl (fun ls' hl' => kk ho H locs ls' hP hD hS (lo_set rfl hl (lo_f _) hl'))
theorem j_istore_1 (hC : CX X own cc nL ret lev) {a0 a1 : Option Value} {r : List (Option Value)} {x : Int} (hd : decode cc pc = .ok (.istore_n 1, 1)) (hn : 1 < nL) (kk : J X nL ret post S (pc + 1) (a0 :: some (vI x) :: r) st) : J X nL ret post S pc (a0 :: a1 :: r) (vI x :: st) := j_istore_g hC hd hn kk
theorem j_iinc_1 (hC : CX X own cc nL ret lev) {a0 : Option Value} {r : List (Option Value)} {n x : Int} (hd : decode cc pc = .ok (.iinc 1 n, 3)) (hn : 1 < nL) (kk : J X nL ret post S (pc + 3) (a0 :: some (vI (x + n)) :: r) st) : J X nL ret post S pc (a0 :: some (vI x) :: r) st := j_iinc_g hC hd rfl hn kk
theorem j_istore_2 (hC : CX X own cc nL ret lev) {a0 a1 a2 : Option Value} {r : List (Option Value)} {x : Int} (hd : decode cc pc = .ok (.istore_n 2, 1)) (hn : 2 < nL) (kk : J X nL ret post S (pc + 1) (a0 :: a1 :: some (vI x) :: r) st) : J X nL ret post S pc (a0 :: a1 :: a2 :: r) (vI x :: st) := j_istore_g hC hd hn kk
theorem j_iinc_2 (hC : CX X own cc nL ret lev) {a0 a1 : Option Value} {r : List (Option Value)} {n x : Int} (hd : decode cc pc = .ok (.iinc 2 n, 3)) (hn : 2 < nL) (kk : J X nL ret post S (pc + 3) (a0 :: a1 :: some (vI (x + n)) :: r) st) : J X nL ret post S pc (a0 :: a1 :: some (vI x) :: r) st := j_iinc_g hC hd rfl hn kk
theorem j_istore_3 (hC : CX X own cc nL ret lev) {a0 a1 a2 a3 : Option Value} {r : List (Option Value)} {x : Int} (hd : decode cc pc = .ok (.istore_n 3, 1)) (hn : 3 < nL) (kk : J X nL ret post S (pc + 1) (a0 :: a1 :: a2 :: some (vI x) :: r) st) : J X nL ret post S pc (a0 :: a1 :: a2 :: a3 :: r) (vI x :: st) := j_istore_g hC hd hn kk
theorem j_iinc_3 (hC : CX X own cc nL ret lev) {a0 a1 a2 : Option Value} {r : List (Option Value)} {n x : Int} (hd : decode cc pc = .ok (.iinc 3 n, 3)) (hn : 3 < nL) (kk : J X nL ret post S (pc + 3) (a0 :: a1 :: a2 :: some (vI (x + n)) :: r) st) : J X nL ret post S pc (a0 :: a1 :: a2 :: some (vI x) :: r) st := j_iinc_g hC hd rfl hn kk
theorem j_istore_4 (hC : CX X own cc nL ret lev) {a0 a1 a2 a3 a4 : Option Value} {r : List (Option Value)} {x : Int} (hd : decode cc pc = .ok (.istore 4, 2)) (hn : 4 < nL) (kk : J X nL ret post S (pc + 2) (a0 :: a1 :: a2 :: a3 :: some (vI x) :: r) st) : J X nL ret post S pc (a0 :: a1 :: a2 :: a3 :: a4 :: r) (vI x :: st) := j_istore_h hC hd hn kk
theorem j_iinc_4 (hC : CX X own cc nL ret lev) {a0 a1 a2 a3 : Option Value} {r : List (Option Value)} {n x : Int} (hd : decode cc pc = .ok (.iinc 4 n, 3)) (hn : 4 < nL) (kk : J X nL ret post S (pc + 3) (a0 :: a1 :: a2 :: a3 :: some (vI (x + n)) :: r) st) : J X nL ret post S pc (a0 :: a1 :: a2 :: a3 :: some (vI x) :: r) st := j_iinc_g hC hd rfl hn kk
theorem j_istore_5 (hC : CX X own cc nL ret lev) {a0 a1 a2 a3 a4 a5 : Option Value} {r : List (Option Value)} {x : Int} (hd : decode cc pc = .ok (.istore 5, 2)) (hn : 5 < nL) (kk : J X nL ret post S (pc + 2) (a0 :: a1 :: a2 :: a3 :: a4 :: some (vI x) :: r) st) : J X nL ret post S pc (a0 :: a1 :: a2 :: a3 :: a4 :: a5 :: r) (vI x :: st) := j_istore_h hC hd hn kk
theorem j_iinc_5 (hC : CX X own cc nL ret lev) {a0 a1 a2 a3 a4 : Option Value} {r : List (Option Value)} {n x : Int} (hd : decode cc pc = .ok (.iinc 5 n, 3)) (hn : 5 < nL) (kk : J X nL ret post S (pc + 3) (a0 :: a1 :: a2 :: a3 :: a4 :: some (vI (x + n)) :: r) st) : J X nL ret post S pc (a0 :: a1 :: a2 :: a3 :: a4 :: some (vI x) :: r) st := j_iinc_g hC hd rfl hn kk
theorem j_istore_6 (hC : CX X own cc nL ret lev) {a0 a1 a2 a3 a4 a5 a6 : Option Value} {r : List (Option Value)} {x : Int} (hd : decode cc pc = .ok (.istore 6, 2)) (hn : 6 < nL) (kk : J X nL ret post S (pc + 2) (a0 :: a1 :: a2 :: a3 :: a4 :: a5 :: some (vI x) :: r) st) : J X nL ret post S pc (a0 :: a1 :: a2 :: a3 :: a4 :: a5 :: a6 :: r) (vI x :: st) := j_istore_h hC hd hn kk
theorem j_iinc_6 (hC : CX X own cc nL ret lev) {a0 a1 a2 a3 a4 a5 : Option Value} {r : List (Option Value)} {n x : Int} (hd : decode cc pc = .ok (.iinc 6 n, 3)) (hn : 6 < nL) (kk : J X nL ret post S (pc + 3) (a0 :: a1 :: a2 :: a3 :: a4 :: a5 :: some (vI (x + n)) :: r) st) : J X nL ret post S pc (a0 :: a1 :: a2 :: a3 :: a4 :: a5 :: some (vI x) :: r) st := j_iinc_g hC hd rfl hn kk
theorem j_iadd (hC : CX X own cc nL ret lev) {x y : Int} (hd : decode cc pc = .ok (.iadd, 1)) (k : J X nL ret post S (pc + 1) L (vI (x + y) :: st)) : J X nL ret post S pc L (vI y :: vI x :: st) :=
  fun ho H locs ls hP hD hS hl => lv_iadd hC.1 hC.2.1 hd (by rw [← Int32.ofInt_add]; exact k ho H locs ls hP hD hS hl)
theorem j_isub (hC : CX X own cc nL ret lev) {x y : Int} (hd : decode cc pc = .ok (.isub, 1)) (k : J X nL ret post S (pc + 1) L (vI (x - y) :: st)) : J X nL ret post S pc L (vI y :: vI x :: st) :=
  fun ho H locs ls hP hD hS hl => lv_isub hC.1 hC.2.1 hd (by rw [← Int32.ofInt_sub]; exact k ho H locs ls hP hD hS hl)
theorem j_imul (hC : CX X own cc nL ret lev) {x y : Int} (hd : decode cc pc = .ok (.imul, 1)) (k : J X nL ret post S (pc + 1) L (vI (x * y) :: st)) : J X nL ret post S pc L (vI y :: vI x :: st) :=
  fun ho H locs ls hP hD hS hl => lv_imul hC.1 hC.2.1 hd (by rw [← Int32.ofInt_mul]; exact k ho H locs ls hP hD hS hl)
theorem j_i2b (hC : CX X own cc nL ret lev) {x : Int} (hd : decode cc pc = .ok (.i2b, 1)) (h1 : -128 ≤ x := by omega) (h2 : x ≤ 127 := by omega) (k : J X nL ret post S (pc + 1) L (vI x :: st)) : J X nL ret post S pc L (vI x :: st) :=
  fun ho H locs ls hP hD hS hl => lv_i2b hC.1 hC.2.1 hd (oi_b h1 h2) (k ho H locs ls hP hD hS hl)
theorem j_dup (hC : CX X own cc nL ret lev) {a : Nat} (hd : decode cc pc = .ok (.dup, 1)) (k : J X nL ret post S (pc + 1) L (.ref a :: .ref a :: st)) : J X nL ret post S pc L (.ref a :: st) :=
  fun ho H locs ls hP hD hS hl => lv_dup hC.1 hC.2.1 hd rfl (k ho H locs ls hP hD hS hl)
theorem j_pop (hC : CX X own cc nL ret lev) {x : Int} (hd : decode cc pc = .ok (.pop, 1)) (k : J X nL ret post S (pc + 1) L st) : J X nL ret post S pc L (vI x :: st) :=
  fun ho H locs ls hP hD hS hl => lv_pop hC.1 hC.2.1 hd rfl (k ho H locs ls hP hD hS hl)
theorem j_goto (hC : CX X own cc nL ret lev) {off : Int} {tgt : Nat} (hd : decode cc pc = .ok (.goto off, 3)) (ht : (pc : Int) + off = (tgt : Int)) (k : J X nL ret post S tgt L st) : J X nL ret post S pc L st :=
  fun ho H locs ls hP hD hS hl => lv_goto hC.1 hC.2.1 hd ht (k ho H locs ls hP hD hS hl)
theorem j_icmp_eq (hC : CX X own cc nL ret lev) {x y off : Int} {tgt : Nat} (hd : decode cc pc = .ok (.if_icmp .eq off, 3)) (ht : (pc : Int) + off = (tgt : Int)) (kt : x = y → J X nL ret post S tgt L st) (kf : ¬ x = y → J X nL ret post S (pc + 3) L st) (x1 : -2147483648 ≤ x := by omega) (x2 : x ≤ 2147483647 := by omega) (y1 : -2147483648 ≤ y := by omega) (y2 : y ≤ 2147483647 := by omega) : J X nL ret post S pc L (vI y :: vI x :: st) :=
  fun ho H locs ls hP hD hS hl => lv_icmp_eq hC.1 hC.2.1 hd ht (fun q => kt ((oi_eq x1 x2 y1 y2).mp q) ho H locs ls hP hD hS hl) (fun q => kf (fun e => q ((oi_eq x1 x2 y1 y2).mpr e)) ho H locs ls hP hD hS hl)
theorem j_if_eq (hC : CX X own cc nL ret lev) {x off : Int} {tgt : Nat} (hd : decode cc pc = .ok (.ifCond .eq off, 3)) (ht : (pc : Int) + off = (tgt : Int)) (kt : x = 0 → J X nL ret post S tgt L st) (kf : ¬ x = 0 → J X nL ret post S (pc + 3) L st) (x1 : -2147483648 ≤ x := by omega) (x2 : x ≤ 2147483647 := by omega) : J X nL ret post S pc L (vI x :: st) := by
  intro ho H locs ls hP hD hS hl
  have z1 : (-2147483648 : Int) ≤ 0 := by omega
  have z2 : (0 : Int) ≤ 2147483647 := by omega
  refine lv_if_eq hC.1 hC.2.1 hd ht ?_ ?_
  · rw [oi_0]
    exact fun q => kt ((oi_eq x1 x2 z1 z2).mp q) ho H locs ls hP hD hS hl
  · rw [oi_0]
    exact fun q => kf (fun e => q ((oi_eq x1 x2 z1 z2).mpr e)) ho H locs ls hP hD hS hl
theorem j_icmp_ne (hC : CX X own cc nL ret lev) {x y off : Int} {tgt : Nat} (hd : decode cc pc = .ok (.if_icmp .ne off, 3)) (ht : (pc : Int) + off = (tgt : Int)) (kt : ¬ x = y → J X nL ret post S tgt L st) (kf : x = y → J X nL ret post S (pc + 3) L st) (x1 : -2147483648 ≤ x := by omega) (x2 : x ≤ 2147483647 := by omega) (y1 : -2147483648 ≤ y := by omega) (y2 : y ≤ 2147483647 := by omega) : J X nL ret post S pc L (vI y :: vI x :: st) :=
  fun ho H locs ls hP hD hS hl => lv_icmp_ne hC.1 hC.2.1 hd ht (fun q => kt (fun e => q ((oi_eq x1 x2 y1 y2).mpr e)) ho H locs ls hP hD hS hl) (fun q => kf ((oi_eq x1 x2 y1 y2).mp q) ho H locs ls hP hD hS hl)
theorem j_if_ne (hC : CX X own cc nL ret lev) {x off : Int} {tgt : Nat} (hd : decode cc pc = .ok (.ifCond .ne off, 3)) (ht : (pc : Int) + off = (tgt : Int)) (kt : ¬ x = 0 → J X nL ret post S tgt L st) (kf : x = 0 → J X nL ret post S (pc + 3) L st) (x1 : -2147483648 ≤ x := by omega) (x2 : x ≤ 2147483647 := by omega) : J X nL ret post S pc L (vI x :: st) := by
  intro ho H locs ls hP hD hS hl
  have z1 : (-2147483648 : Int) ≤ 0 := by omega
  have z2 : (0 : Int) ≤ 2147483647 := by omega
  refine lv_if_ne hC.1 hC.2.1 hd ht ?_ ?_
  · rw [oi_0]
    exact fun q => kt (fun e => q ((oi_eq x1 x2 z1 z2).mpr e)) ho H locs ls hP hD hS hl
  · rw [oi_0]
    exact fun q => kf ((oi_eq x1 x2 z1 z2).mp q) ho H locs ls hP hD hS hl
theorem j_icmp_lt (hC : CX X own cc nL ret lev) {x y off : Int} {tgt : Nat} (hd : decode cc pc = .ok (.if_icmp .lt off, 3)) (ht : (pc : Int) + off = (tgt : Int)) (kt : x < y → J X nL ret post S tgt L st) (kf : y ≤ x → J X nL ret post S (pc + 3) L st) (x1 : -2147483648 ≤ x := by omega) (x2 : x ≤ 2147483647 := by omega) (y1 : -2147483648 ≤ y := by omega) (y2 : y ≤ 2147483647 := by omega) : J X nL ret post S pc L (vI y :: vI x :: st) :=
  fun ho H locs ls hP hD hS hl => lv_icmp_lt hC.1 hC.2.1 hd ht (fun q => kt ((oi_lt x1 x2 y1 y2).mp q) ho H locs ls hP hD hS hl) (fun q => kf (Int.not_lt.mp (fun e => q ((oi_lt x1 x2 y1 y2).mpr e))) ho H locs ls hP hD hS hl)
theorem j_if_lt (hC : CX X own cc nL ret lev) {x off : Int} {tgt : Nat} (hd : decode cc pc = .ok (.ifCond .lt off, 3)) (ht : (pc : Int) + off = (tgt : Int)) (kt : x < 0 → J X nL ret post S tgt L st) (kf : 0 ≤ x → J X nL ret post S (pc + 3) L st) (x1 : -2147483648 ≤ x := by omega) (x2 : x ≤ 2147483647 := by omega) : J X nL ret post S pc L (vI x :: st) := by
  intro ho H locs ls hP hD hS hl
  have z1 : (-2147483648 : Int) ≤ 0 := by omega
  have z2 : (0 : Int) ≤ 2147483647 := by omega
  refine lv_if_lt hC.1 hC.2.1 hd ht ?_ ?_
  · rw [oi_0]
    exact fun q => kt ((oi_lt x1 x2 z1 z2).mp q) ho H locs ls hP hD hS hl
  · rw [oi_0]
    exact fun q => kf (Int.not_lt.mp (fun e => q ((oi_lt x1 x2 z1 z2).mpr e))) ho H locs ls hP hD hS hl
theorem j_icmp_ge (hC : CX X own cc nL ret lev) {x y off : Int} {tgt : Nat} (hd : decode cc pc = .ok (.if_icmp .ge off, 3)) (ht : (pc : Int) + off = (tgt : Int)) (kt : y ≤ x → J X nL ret post S tgt L st) (kf : x < y → J X nL ret post S (pc + 3) L st) (x1 : -2147483648 ≤ x := by omega) (x2 : x ≤ 2147483647 := by omega) (y1 : -2147483648 ≤ y := by omega) (y2 : y ≤ 2147483647 := by omega) : J X nL ret post S pc L (vI y :: vI x :: st) :=
  fun ho H locs ls hP hD hS hl => lv_icmp_ge hC.1 hC.2.1 hd ht (fun q => kt ((oi_le y1 y2 x1 x2).mp q) ho H locs ls hP hD hS hl) (fun q => kf (Int.not_le.mp (fun e => q ((oi_le y1 y2 x1 x2).mpr e))) ho H locs ls hP hD hS hl)
theorem j_if_ge (hC : CX X own cc nL ret lev) {x off : Int} {tgt : Nat} (hd : decode cc pc = .ok (.ifCond .ge off, 3)) (ht : (pc : Int) + off = (tgt : Int)) (kt : 0 ≤ x → J X nL ret post S tgt L st) (kf : x < 0 → J X nL ret post S (pc + 3) L st) (x1 : -2147483648 ≤ x := by omega) (x2 : x ≤ 2147483647 := by omega) : J X nL ret post S pc L (vI x :: st) := by
  intro ho H locs ls hP hD hS hl
  have z1 : (-2147483648 : Int) ≤ 0 := by omega
  have z2 : (0 : Int) ≤ 2147483647 := by omega
  refine lv_if_ge hC.1 hC.2.1 hd ht ?_ ?_
  · rw [oi_0]
    exact fun q => kt ((oi_le z1 z2 x1 x2).mp q) ho H locs ls hP hD hS hl
  · rw [oi_0]
    exact fun q => kf (Int.not_le.mp (fun e => q ((oi_le z1 z2 x1 x2).mpr e))) ho H locs ls hP hD hS hl
theorem j_icmp_gt (hC : CX X own cc nL ret lev) {x y off : Int} {tgt : Nat} (hd : decode cc pc = .ok (.if_icmp .gt off, 3)) (ht : (pc : Int) + off = (tgt : Int)) (kt : y < x → J X nL ret post S tgt L st) (kf : x ≤ y → J X nL ret post S (pc + 3) L st) (x1 : -2147483648 ≤ x := by omega) (x2 : x ≤ 2147483647 := by omega) (y1 : -2147483648 ≤ y := by omega) (y2 : y ≤ 2147483647 := by omega) : J X nL ret post S pc L (vI y :: vI x :: st) :=
  fun ho H locs ls hP hD hS hl => lv_icmp_gt hC.1 hC.2.1 hd ht (fun q => kt ((oi_lt y1 y2 x1 x2).mp q) ho H locs ls hP hD hS hl) (fun q => kf (Int.not_lt.mp (fun e => q ((oi_lt y1 y2 x1 x2).mpr e))) ho H locs ls hP hD hS hl)
theorem j_if_gt (hC : CX X own cc nL ret lev) {x off : Int} {tgt : Nat} (hd : decode cc pc = .ok (.ifCond .gt off, 3)) (ht : (pc : Int) + off = (tgt : Int)) (kt : 0 < x → J X nL ret post S tgt L st) (kf : x ≤ 0 → J X nL ret post S (pc + 3) L st) (x1 : -2147483648 ≤ x := by omega) (x2 : x ≤ 2147483647 := by omega) : J X nL ret post S pc L (vI x :: st) := by
  intro ho H locs ls hP hD hS hl
  have z1 : (-2147483648 : Int) ≤ 0 := by omega
  have z2 : (0 : Int) ≤ 2147483647 := by omega
  refine lv_if_gt hC.1 hC.2.1 hd ht ?_ ?_
  · rw [oi_0]
    exact fun q => kt ((oi_lt z1 z2 x1 x2).mp q) ho H locs ls hP hD hS hl
  · rw [oi_0]
    exact fun q => kf (Int.not_lt.mp (fun e => q ((oi_lt z1 z2 x1 x2).mpr e))) ho H locs ls hP hD hS hl
theorem j_icmp_le (hC : CX X own cc nL ret lev) {x y off : Int} {tgt : Nat} (hd : decode cc pc = .ok (.if_icmp .le off, 3)) (ht : (pc : Int) + off = (tgt : Int)) (kt : x ≤ y → J X nL ret post S tgt L st) (kf : y < x → J X nL ret post S (pc + 3) L st) (x1 : -2147483648 ≤ x := by omega) (x2 : x ≤ 2147483647 := by omega) (y1 : -2147483648 ≤ y := by omega) (y2 : y ≤ 2147483647 := by omega) : J X nL ret post S pc L (vI y :: vI x :: st) :=
  fun ho H locs ls hP hD hS hl => lv_icmp_le hC.1 hC.2.1 hd ht (fun q => kt ((oi_le x1 x2 y1 y2).mp q) ho H locs ls hP hD hS hl) (fun q => kf (Int.not_le.mp (fun e => q ((oi_le x1 x2 y1 y2).mpr e))) ho H locs ls hP hD hS hl)
theorem j_if_le (hC : CX X own cc nL ret lev) {x off : Int} {tgt : Nat} (hd : decode cc pc = .ok (.ifCond .le off, 3)) (ht : (pc : Int) + off = (tgt : Int)) (kt : x ≤ 0 → J X nL ret post S tgt L st) (kf : 0 < x → J X nL ret post S (pc + 3) L st) (x1 : -2147483648 ≤ x := by omega) (x2 : x ≤ 2147483647 := by omega) : J X nL ret post S pc L (vI x :: st) := by
  intro ho H locs ls hP hD hS hl
  have z1 : (-2147483648 : Int) ≤ 0 := by omega
  have z2 : (0 : Int) ≤ 2147483647 := by omega
  refine lv_if_le hC.1 hC.2.1 hd ht ?_ ?_
  · rw [oi_0]
    exact fun q => kt ((oi_le x1 x2 z1 z2).mp q) ho H locs ls hP hD hS hl
  · rw [oi_0]
    exact fun q => kf (Int.not_le.mp (fun e => q ((oi_le x1 x2 z1 z2).mpr e))) ho H locs ls hP hD hS hl
theorem j_iret (hC : CX X own cc nL (some .int) lev) {z : Int} (hd : decode cc pc = .ok (.ireturn, 1)) (h : post z S) : J X nL (some .int) post S pc L [vI z] :=
  fun ho H locs ls hP hD hS hl => W.iret hC.1 hC.2.1 hC.2.2.2.1 (fun t ht hW => ⟨⟨_, S, rfl, ⟨z, rfl, h, ho⟩, by rw [ht]; exact hP, va_K.moved hW.alike hC.2.2.2.2.2.2.2.1, hD⟩, hS.F ht⟩) hS.2.2 hd hC.2.2.2.2.1
theorem j_zret (hC : CX X own cc nL (some .boolean) lev) {z : Int} (hd : decode cc pc = .ok (.ireturn, 1)) (h : post z S) (h1 : 0 ≤ z := by omega) (h2 : z ≤ 1 := by omega) : J X nL (some .boolean) post S pc L [vI z] :=
  fun ho H locs ls hP hD hS hl => W.zret hC.1 hC.2.1 hC.2.2.2.1 (oi_z h1 h2) (fun t ht hW => ⟨⟨_, S, rfl, ⟨z, rfl, h, ho⟩, by rw [ht]; exact hP, va_K.moved hW.alike hC.2.2.2.2.2.2.2.1, hD⟩, hS.F ht⟩) hS.2.2 hd hC.2.2.2.2.1
theorem j_vret (hC : CX X own cc nL none lev) (hd : decode cc pc = .ok (.return_, 1)) (h : post 0 S) : J X nL none post S pc L [] :=
  fun ho H locs ls hP hD hS hl => W.vret hC.1 hC.2.1 hC.2.2.2.1 (fun t ht hW => ⟨⟨S, rfl, ⟨h, ho⟩, by rw [ht]; exact hP, va_K.moved hW.alike hC.2.2.2.2.2.2.2.1, hD⟩, hS.F ht⟩) hS.2.2 hd hC.2.2.2.2.1
end JR
/-- A CONTRACT over the world WW: with the whole numbers xs, from the state S (with ok), method y returns z and leaves the state u, with post z u; no cell is made -/
def Ct (WW : Gm → St → va_W) (ok : St → Prop) (y : MethodName) (b : ByteArray) (n : Nat) (ret : Option FieldType) (lev : Nat) (xs : List Int) (S : St) (post : Int → St → Prop) : Prop :=
  ∀ (l : Launch) (Z : Gm) (sz : Nat), Met l y (.code y b n ret :: gw_tbl) (rmk lev) (va_Pc (.ref (Z.2.1 0) :: xs.map vI) (fun U => U.heap.size = sz ∧ va_P Z.1 classes (WW Z S) U.heap ∧ va_K Z.1 classes (tysOf Z) U ∧ va_D (fun _ => True) (WW Z S))) (QcJ ret WW ok Z (va_A (WW Z S) sz) post) 0 0 (va_A (WW Z S) sz)
theorem Ct.of {WW : Gm → St → va_W} {ok : St → Prop} {y : MethodName} {b : ByteArray} {n : Nat} {ret : Option FieldType} {lev : Nat} {xs : List Int} {S : St} {post : Int → St → Prop} (hy : plainName y.cls = true) (hn : xs.length + 1 ≤ n) (ho : ok S)
    (h : ∀ X : Cx, xW X = WW → xok X = ok → CX X y.cls b n ret lev → J X n ret post S 0 (some (.ref (gA X 0)) :: (xs.map (fun x => some (vI x)) ++ List.replicate (n - (xs.length + 1)) none)) []) : Ct WW ok y b n ret lev xs S post := by
  intro l Z sz
  refine Met.ofW (cc := b) (maxL := n) (ret := ret) hy rfl ?_
  intro p e s m args below meth c s₁ B hml hv
  obtain ⟨rfl, hsz, hP, hK, hD0⟩ := hv
  have hts := atoms_spec (ws := (Cond.code y b n ret :: gw_tbl)) B.pre
  have hown : s.vm.findClass y.cls = some m.cls := findClass_of_methodNamed B.named
  subst hsz
  have hD := hD0.self (sz := s.heap.size)
  have hA : ∀ q : Nat, s.heap.size ≤ q → va_A (WW Z S) s.heap.size q := fun q h => Or.inr h
  rw [lg_entry_eq]
  have hcat : ∀ v ∈ (Value.ref (Z.2.1 0) :: xs.map vI), v.category = 1 := by
    intro v hv
    rcases List.mem_cons.mp hv with rfl | hv
    · rfl
    · obtain ⟨x, -, rfl⟩ := List.mem_map.mp hv
      rfl
  have hl := lo_entry (Value.ref (Z.2.1 0) :: xs.map vI) (n := n) hcat (by simpa using hn)
  have hk := h (p, l, e, rmk lev, s, m, (Value.ref (Z.2.1 0) :: xs.map vI).toArray, below, meth, c, Z, va_A (WW Z S) s.heap.size, WW, ok) rfl rfl ⟨B.exec, B.bytes, hml, B.returns, B.notSynchronized, hown, fun w hw => hts w (List.mem_cons_of_mem _ hw), hK, hA, rfl⟩
  refine hk ho s.heap [] _ hP hD va_S.rf ?_
  simpa [gA, xZ, List.map_map, Function.comp_def] using hl
/-- the words of a call, out of the tables' -/
theorem gw_call {c0 : Cond} {own : String} {idx : Nat} {y : MethodName} {b : ByteArray} {n : Nat} {r : Option FieldType} (h1 : Cond.methodLink own idx y ∈ gw_tbl) (h2 : gw_m y b n r) (h4 : Cond.initialized y.cls ∈ gw_tbl) : GoodIn gw_tbl (wsV own idx y.cls y (.code y b n r :: gw_tbl)) := by
  intro w hw
  have hg : w ∈ gw_tbl := by
    rcases List.mem_append.mp hw with hw | hw
    · simp only [List.mem_cons, List.not_mem_nil, or_false] at hw
      rcases hw with rfl | rfl | rfl | rfl
      · exact h1
      · exact h2.1
      · exact h2.2.1
      · exact h4
    · rcases List.mem_cons.mp hw with rfl | hw
      · exact h2.2.2
      · exact hw
  exact ⟨hg, good_of_word (gw_good hg)⟩
section JC
variable {X : Cx} {own : String} {cc : ByteArray} {nL lev pc : Nat} {ret : Option FieldType} {post : Int → St → Prop} {S : St} {L : List (Option Value)} {st : List Value}
variable {y : MethodName} {b : ByteArray} {n lv idx ci : Nat} {rt : FieldType} {post' : Int → St → Prop}
theorem va_Dw {A B : Nat → Prop} {ws : va_W} (h : va_D A ws) : va_D (fun _ => True) ws := ⟨h.1, fun _ _ _ => trivial⟩
/-- what a call of a method of one's own class needs beside its contract -/
def CW (lev : Nat) (own : String) (idx : Nat) (y : MethodName) (b : ByteArray) (n : Nat) (r : Option FieldType) (lv k : Nat) : Prop :=
  Cond.methodLink own idx y ∈ gw_tbl ∧ gw_m y b n r ∧ Cond.initialized y.cls ∈ gw_tbl ∧ (y.cls ≠ "java/lang/invoke/MethodHandle" ∧ y.cls ≠ "java/lang/invoke/VarHandle" ∧ (parseMethodDescriptor y.desc).map (fun d => d.parameters.length) = some k) ∧ n ≤ 8 ∧ lv + 1 ≤ lev
theorem CW.cw {k : Nat} {ret' : Option FieldType} (h : CW lev own idx y b n ret lv k) (hC : CX X own cc nL ret' lev) : CallW (xR X) (xS X) (xV X) own y.cls idx y b n ret (.code y b n ret :: gw_tbl) (rmk lv) 0 0 k := by
  obtain ⟨h1, h2, h3, h4, h5, h6⟩ := h
  refine cwV k hC.2.2.2.2.2.2.1 (gw_call (c0 := Cond.initialized own) h1 h2 h3) rfl rfl rfl ⟨rfl, h4⟩ ?_
  rw [hC.2.2.2.2.2.2.2.2.2]
  simp only [rmk]
  omega
theorem j_calli_g {xs : List Int} (hC : CX X own cc nL ret lev) (hw : CW lev own idx y b n (some rt) lv xs.length) (hM : Ct (xW X) (xok X) y b n (some rt) lv xs S post')
    (hr : ∀ (H : Heap), va_P (xZ X).1 classes (xW X (xZ X) S) H → ∃ cellB : Cell, H[gA X 0]? = some cellB ∧ cellB.vm.isStatics = false ∧ (xS X).vm.findClass y.cls = some cellB.cls)
    (hd : decode cc pc = .ok (.invokevirtual idx, 3)) (hst : (st.map fun v => v.category).sum ≤ 8)
    (k : ∀ (z : Int) (S' : St), post' z S' → xok X S' → J X nL ret post S' (pc + 3) L (vI z :: st)) : J X nL ret post S pc L ((xs.map vI).reverse ++ .ref (gA X 0) :: st) := by
  intro ho H locs ls hP hD hS hl
  have hFc := va_free (wc := xW X (xZ X) S) hD hS hC.2.2.2.2.2.2.2.2.1 (List.range (xW X (xZ X) S).length) (by
    apply List.ext_getElem?
    intro i
    rw [List.getElem?_map, List.getElem?_map]
    by_cases hi : i < (xW X (xZ X) S).length
    · rw [List.getElem?_range hi]; simp [hi]
    · rw [List.getElem?_eq_none (by simpa using hi), List.getElem?_eq_none (by simpa using hi)]; rfl)
  have hKc := hC.2.2.2.2.2.2.2.1
  refine va_calli (va_runV (As := xs.map vI) (rest := st) (C := y.cls) (n := xs.length) ⟨hC.1, hC.2.1, hC.2.2.1, hC.2.2.2.2.2.1, hC.2.2.2.2.2.2.1⟩ (hM (xL X) (xZ X) H.size) (hw.cw hC) ⟨fun a U g mk q => by obtain ⟨q0, q1, qP, qK, qD⟩ := q; exact ⟨q0, q1, qP, va_K.moved (u := U) (U := U.calling g mk a) (Vm.Alike.refl U.vm) qK, qD⟩, hr H hP, fun U hU hW => ⟨rfl, by rw [hU], by rw [hU]; exact hP, va_K.moved hW.alike hKc, hD.weaken (fun _ _ _ _ => trivial)⟩⟩ rfl (by simp) hl.1 rfl (lv_room hst) hd ⟨Nat.le_of_ble_eq_true (by rw [hC.2.2.2.2.2.2.2.2.2]; rfl), Nat.le_of_ble_eq_true (by rw [hC.2.2.2.2.2.2.2.2.2]; rfl)⟩) hS (fun q _ h => hFc q h) hFc (fun r u t H1 locs ht hvm hw hB hz1 hk1 hS => ?_)
  obtain ⟨z, rfl, hp, hou⟩ := hw
  obtain ⟨hP1, hK1, hD1⟩ := hB
  rw [ht] at hP1
  exact k z u hp hou hou H1 locs ls hP1 (hD1.weaken (fun _ q _ h => hFc q.1 h)) hS hl
theorem j_callv_g {xs : List Int} (hC : CX X own cc nL ret lev) (hw : CW lev own idx y b n none lv xs.length) (hM : Ct (xW X) (xok X) y b n none lv xs S post')
    (hr : ∀ (H : Heap), va_P (xZ X).1 classes (xW X (xZ X) S) H → ∃ cellB : Cell, H[gA X 0]? = some cellB ∧ cellB.vm.isStatics = false ∧ (xS X).vm.findClass y.cls = some cellB.cls)
    (hd : decode cc pc = .ok (.invokevirtual idx, 3)) (hst : (st.map fun v => v.category).sum ≤ 8)
    (k : ∀ (S' : St), post' 0 S' → xok X S' → J X nL ret post S' (pc + 3) L st) : J X nL ret post S pc L ((xs.map vI).reverse ++ .ref (gA X 0) :: st) := by
  intro ho H locs ls hP hD hS hl
  have hFc := va_free (wc := xW X (xZ X) S) hD hS hC.2.2.2.2.2.2.2.2.1 (List.range (xW X (xZ X) S).length) (by
    apply List.ext_getElem?
    intro i
    rw [List.getElem?_map, List.getElem?_map]
    by_cases hi : i < (xW X (xZ X) S).length
    · rw [List.getElem?_range hi]; simp [hi]
    · rw [List.getElem?_eq_none (by simpa using hi), List.getElem?_eq_none (by simpa using hi)]; rfl)
  have hKc := hC.2.2.2.2.2.2.2.1
  refine va_callv (va_runV (As := xs.map vI) (rest := st) (C := y.cls) (n := xs.length) ⟨hC.1, hC.2.1, hC.2.2.1, hC.2.2.2.2.2.1, hC.2.2.2.2.2.2.1⟩ (hM (xL X) (xZ X) H.size) (hw.cw hC) ⟨fun a U g mk q => by obtain ⟨q0, q1, qP, qK, qD⟩ := q; exact ⟨q0, q1, qP, va_K.moved (u := U) (U := U.calling g mk a) (Vm.Alike.refl U.vm) qK, qD⟩, hr H hP, fun U hU hW => ⟨rfl, by rw [hU], by rw [hU]; exact hP, va_K.moved hW.alike hKc, hD.weaken (fun _ _ _ _ => trivial)⟩⟩ rfl (by simp) hl.1 rfl (lv_room hst) hd ⟨Nat.le_of_ble_eq_true (by rw [hC.2.2.2.2.2.2.2.2.2]; rfl), Nat.le_of_ble_eq_true (by rw [hC.2.2.2.2.2.2.2.2.2]; rfl)⟩) hS (fun q _ h => hFc q h) hFc (fun u t H1 locs ht hvm hw hB hz1 hk1 hS => ?_)
  obtain ⟨hp, hou⟩ := hw
  obtain ⟨hP1, hK1, hD1⟩ := hB
  rw [ht] at hP1
  exact k u hp hou hou H1 locs ls hP1 (hD1.weaken (fun _ q _ h => hFc q.1 h)) hS hl
end JC
end
section
-- THE WORLD OF EqualJobPlanner, and a row for each of its fields and arrays: printed by gen/rows.py
-- S 0 _: 0 length, 1 capacity, 2 asked, 3 lastEnd, 4 planKnown; arrays: 1 used, 2 from, 3 until, 4 blockUsed, 5 blockFrom, 6 blockUntil, 7 askFrom, 8 askUntil, 9 placed, 10 shut, 11 plan
def PW (Z : Gm) (S : St) : va_W := [(Z.2.1 0, .inr (0, [vI (S 0 0), vI (S 0 1), .ref (Z.2.1 1), .ref (Z.2.1 2), .ref (Z.2.1 3), .ref (Z.2.1 4), .ref (Z.2.1 5), .ref (Z.2.1 6), vI (S 0 2), .ref (Z.2.1 7), .ref (Z.2.1 8), .ref (Z.2.1 9), .ref (Z.2.1 10), vI (S 0 3), vI (S 0 4), .ref (Z.2.1 11)])), (Z.2.1 1, .inl (Z.2.2.1, 8, .inl (ar S 1))), (Z.2.1 2, .inl (Z.2.2.2.1, 8, .inl (ar S 2))), (Z.2.1 3, .inl (Z.2.2.2.1, 8, .inl (ar S 3))), (Z.2.1 4, .inl (Z.2.2.1, 4, .inl (ar S 4))), (Z.2.1 5, .inl (Z.2.2.2.1, 4, .inl (ar S 5))), (Z.2.1 6, .inl (Z.2.2.2.1, 4, .inl (ar S 6))), (Z.2.1 7, .inl (Z.2.2.2.1, 8, .inl (ar S 7))), (Z.2.1 8, .inl (Z.2.2.2.1, 8, .inl (ar S 8))), (Z.2.1 9, .inl (Z.2.2.1, 8, .inl (ar S 9))), (Z.2.1 10, .inl (Z.2.2.1, 48, .inl (ar S 10))), (Z.2.1 11, .inl (Z.2.2.2.1, 8, .inl (ar S 11)))]
def bdP (a : Nat) (i : Int) : Int × Int := if a = 0 then (if i = 0 then (1, 6) else if i = 1 then (1, 6) else if i = 2 then (0, 8) else if i = 3 then (0, 127) else if i = 4 then (0, 1) else (0, 0)) else if a = 1 then (0, 1) else if a = 2 then ((-128), 127) else if a = 3 then ((-128), 127) else if a = 4 then (0, 1) else if a = 5 then ((-128), 127) else if a = 6 then ((-128), 127) else if a = 7 then ((-128), 127) else if a = 8 then ((-128), 127) else if a = 9 then (0, 1) else if a = 10 then (0, 1) else if a = 11 then ((-128), 127) else (0, 0)
/-- the bounds of all that the object holds -/
def okP (S : St) : Prop := (1 ≤ S 0 0 ∧ S 0 0 ≤ 6) ∧ (1 ≤ S 0 1 ∧ S 0 1 ≤ 6) ∧ (0 ≤ S 0 2 ∧ S 0 2 ≤ 8) ∧ (0 ≤ S 0 3 ∧ S 0 3 ≤ 127) ∧ (0 ≤ S 0 4 ∧ S 0 4 ≤ 1) ∧ (∀ i, 0 ≤ S 1 i ∧ S 1 i ≤ 1) ∧ (∀ i, (-128) ≤ S 2 i ∧ S 2 i ≤ 127) ∧ (∀ i, (-128) ≤ S 3 i ∧ S 3 i ≤ 127) ∧ (∀ i, 0 ≤ S 4 i ∧ S 4 i ≤ 1) ∧ (∀ i, (-128) ≤ S 5 i ∧ S 5 i ≤ 127) ∧ (∀ i, (-128) ≤ S 6 i ∧ S 6 i ≤ 127) ∧ (∀ i, (-128) ≤ S 7 i ∧ S 7 i ≤ 127) ∧ (∀ i, (-128) ≤ S 8 i ∧ S 8 i ≤ 127) ∧ (∀ i, 0 ≤ S 9 i ∧ S 9 i ≤ 1) ∧ (∀ i, 0 ≤ S 10 i ∧ S 10 i ≤ 1) ∧ (∀ i, (-128) ≤ S 11 i ∧ S 11 i ≤ 127)
def GP (X : Cx) : Prop := xW X = PW ∧ xok X = okP
theorem PW_used (Z : Gm) (S : St) (i v : Int) : PW Z (s2 S 1 i v) = (PW Z S).set 1 (Z.2.1 1, .inl (Z.2.2.1, 8, .inl (ar (s2 S 1 i v) 1))) := by
  simp only [PW, List.set_cons_succ, List.set_cons_zero, ar_s2n S (show (2 : Nat) ≠ 1 by decide), ar_s2n S (show (3 : Nat) ≠ 1 by decide), ar_s2n S (show (4 : Nat) ≠ 1 by decide), ar_s2n S (show (5 : Nat) ≠ 1 by decide), ar_s2n S (show (6 : Nat) ≠ 1 by decide), ar_s2n S (show (7 : Nat) ≠ 1 by decide), ar_s2n S (show (8 : Nat) ≠ 1 by decide), ar_s2n S (show (9 : Nat) ≠ 1 by decide), ar_s2n S (show (10 : Nat) ≠ 1 by decide), ar_s2n S (show (11 : Nat) ≠ 1 by decide), s2_ne (S := S) (a := 1) (b := 0) (i := i) (j := 0) (v := v) (by rintro ⟨q, -⟩; cases q), s2_ne (S := S) (a := 1) (b := 0) (i := i) (j := 1) (v := v) (by rintro ⟨q, -⟩; cases q), s2_ne (S := S) (a := 1) (b := 0) (i := i) (j := 2) (v := v) (by rintro ⟨q, -⟩; cases q), s2_ne (S := S) (a := 1) (b := 0) (i := i) (j := 3) (v := v) (by rintro ⟨q, -⟩; cases q), s2_ne (S := S) (a := 1) (b := 0) (i := i) (j := 4) (v := v) (by rintro ⟨q, -⟩; cases q)]
theorem PW_from (Z : Gm) (S : St) (i v : Int) : PW Z (s2 S 2 i v) = (PW Z S).set 2 (Z.2.1 2, .inl (Z.2.2.2.1, 8, .inl (ar (s2 S 2 i v) 2))) := by
  simp only [PW, List.set_cons_succ, List.set_cons_zero, ar_s2n S (show (1 : Nat) ≠ 2 by decide), ar_s2n S (show (3 : Nat) ≠ 2 by decide), ar_s2n S (show (4 : Nat) ≠ 2 by decide), ar_s2n S (show (5 : Nat) ≠ 2 by decide), ar_s2n S (show (6 : Nat) ≠ 2 by decide), ar_s2n S (show (7 : Nat) ≠ 2 by decide), ar_s2n S (show (8 : Nat) ≠ 2 by decide), ar_s2n S (show (9 : Nat) ≠ 2 by decide), ar_s2n S (show (10 : Nat) ≠ 2 by decide), ar_s2n S (show (11 : Nat) ≠ 2 by decide), s2_ne (S := S) (a := 2) (b := 0) (i := i) (j := 0) (v := v) (by rintro ⟨q, -⟩; cases q), s2_ne (S := S) (a := 2) (b := 0) (i := i) (j := 1) (v := v) (by rintro ⟨q, -⟩; cases q), s2_ne (S := S) (a := 2) (b := 0) (i := i) (j := 2) (v := v) (by rintro ⟨q, -⟩; cases q), s2_ne (S := S) (a := 2) (b := 0) (i := i) (j := 3) (v := v) (by rintro ⟨q, -⟩; cases q), s2_ne (S := S) (a := 2) (b := 0) (i := i) (j := 4) (v := v) (by rintro ⟨q, -⟩; cases q)]
theorem PW_until (Z : Gm) (S : St) (i v : Int) : PW Z (s2 S 3 i v) = (PW Z S).set 3 (Z.2.1 3, .inl (Z.2.2.2.1, 8, .inl (ar (s2 S 3 i v) 3))) := by
  simp only [PW, List.set_cons_succ, List.set_cons_zero, ar_s2n S (show (1 : Nat) ≠ 3 by decide), ar_s2n S (show (2 : Nat) ≠ 3 by decide), ar_s2n S (show (4 : Nat) ≠ 3 by decide), ar_s2n S (show (5 : Nat) ≠ 3 by decide), ar_s2n S (show (6 : Nat) ≠ 3 by decide), ar_s2n S (show (7 : Nat) ≠ 3 by decide), ar_s2n S (show (8 : Nat) ≠ 3 by decide), ar_s2n S (show (9 : Nat) ≠ 3 by decide), ar_s2n S (show (10 : Nat) ≠ 3 by decide), ar_s2n S (show (11 : Nat) ≠ 3 by decide), s2_ne (S := S) (a := 3) (b := 0) (i := i) (j := 0) (v := v) (by rintro ⟨q, -⟩; cases q), s2_ne (S := S) (a := 3) (b := 0) (i := i) (j := 1) (v := v) (by rintro ⟨q, -⟩; cases q), s2_ne (S := S) (a := 3) (b := 0) (i := i) (j := 2) (v := v) (by rintro ⟨q, -⟩; cases q), s2_ne (S := S) (a := 3) (b := 0) (i := i) (j := 3) (v := v) (by rintro ⟨q, -⟩; cases q), s2_ne (S := S) (a := 3) (b := 0) (i := i) (j := 4) (v := v) (by rintro ⟨q, -⟩; cases q)]
theorem PW_blockUsed (Z : Gm) (S : St) (i v : Int) : PW Z (s2 S 4 i v) = (PW Z S).set 4 (Z.2.1 4, .inl (Z.2.2.1, 4, .inl (ar (s2 S 4 i v) 4))) := by
  simp only [PW, List.set_cons_succ, List.set_cons_zero, ar_s2n S (show (1 : Nat) ≠ 4 by decide), ar_s2n S (show (2 : Nat) ≠ 4 by decide), ar_s2n S (show (3 : Nat) ≠ 4 by decide), ar_s2n S (show (5 : Nat) ≠ 4 by decide), ar_s2n S (show (6 : Nat) ≠ 4 by decide), ar_s2n S (show (7 : Nat) ≠ 4 by decide), ar_s2n S (show (8 : Nat) ≠ 4 by decide), ar_s2n S (show (9 : Nat) ≠ 4 by decide), ar_s2n S (show (10 : Nat) ≠ 4 by decide), ar_s2n S (show (11 : Nat) ≠ 4 by decide), s2_ne (S := S) (a := 4) (b := 0) (i := i) (j := 0) (v := v) (by rintro ⟨q, -⟩; cases q), s2_ne (S := S) (a := 4) (b := 0) (i := i) (j := 1) (v := v) (by rintro ⟨q, -⟩; cases q), s2_ne (S := S) (a := 4) (b := 0) (i := i) (j := 2) (v := v) (by rintro ⟨q, -⟩; cases q), s2_ne (S := S) (a := 4) (b := 0) (i := i) (j := 3) (v := v) (by rintro ⟨q, -⟩; cases q), s2_ne (S := S) (a := 4) (b := 0) (i := i) (j := 4) (v := v) (by rintro ⟨q, -⟩; cases q)]
theorem PW_blockFrom (Z : Gm) (S : St) (i v : Int) : PW Z (s2 S 5 i v) = (PW Z S).set 5 (Z.2.1 5, .inl (Z.2.2.2.1, 4, .inl (ar (s2 S 5 i v) 5))) := by
  simp only [PW, List.set_cons_succ, List.set_cons_zero, ar_s2n S (show (1 : Nat) ≠ 5 by decide), ar_s2n S (show (2 : Nat) ≠ 5 by decide), ar_s2n S (show (3 : Nat) ≠ 5 by decide), ar_s2n S (show (4 : Nat) ≠ 5 by decide), ar_s2n S (show (6 : Nat) ≠ 5 by decide), ar_s2n S (show (7 : Nat) ≠ 5 by decide), ar_s2n S (show (8 : Nat) ≠ 5 by decide), ar_s2n S (show (9 : Nat) ≠ 5 by decide), ar_s2n S (show (10 : Nat) ≠ 5 by decide), ar_s2n S (show (11 : Nat) ≠ 5 by decide), s2_ne (S := S) (a := 5) (b := 0) (i := i) (j := 0) (v := v) (by rintro ⟨q, -⟩; cases q), s2_ne (S := S) (a := 5) (b := 0) (i := i) (j := 1) (v := v) (by rintro ⟨q, -⟩; cases q), s2_ne (S := S) (a := 5) (b := 0) (i := i) (j := 2) (v := v) (by rintro ⟨q, -⟩; cases q), s2_ne (S := S) (a := 5) (b := 0) (i := i) (j := 3) (v := v) (by rintro ⟨q, -⟩; cases q), s2_ne (S := S) (a := 5) (b := 0) (i := i) (j := 4) (v := v) (by rintro ⟨q, -⟩; cases q)]
theorem PW_blockUntil (Z : Gm) (S : St) (i v : Int) : PW Z (s2 S 6 i v) = (PW Z S).set 6 (Z.2.1 6, .inl (Z.2.2.2.1, 4, .inl (ar (s2 S 6 i v) 6))) := by
  simp only [PW, List.set_cons_succ, List.set_cons_zero, ar_s2n S (show (1 : Nat) ≠ 6 by decide), ar_s2n S (show (2 : Nat) ≠ 6 by decide), ar_s2n S (show (3 : Nat) ≠ 6 by decide), ar_s2n S (show (4 : Nat) ≠ 6 by decide), ar_s2n S (show (5 : Nat) ≠ 6 by decide), ar_s2n S (show (7 : Nat) ≠ 6 by decide), ar_s2n S (show (8 : Nat) ≠ 6 by decide), ar_s2n S (show (9 : Nat) ≠ 6 by decide), ar_s2n S (show (10 : Nat) ≠ 6 by decide), ar_s2n S (show (11 : Nat) ≠ 6 by decide), s2_ne (S := S) (a := 6) (b := 0) (i := i) (j := 0) (v := v) (by rintro ⟨q, -⟩; cases q), s2_ne (S := S) (a := 6) (b := 0) (i := i) (j := 1) (v := v) (by rintro ⟨q, -⟩; cases q), s2_ne (S := S) (a := 6) (b := 0) (i := i) (j := 2) (v := v) (by rintro ⟨q, -⟩; cases q), s2_ne (S := S) (a := 6) (b := 0) (i := i) (j := 3) (v := v) (by rintro ⟨q, -⟩; cases q), s2_ne (S := S) (a := 6) (b := 0) (i := i) (j := 4) (v := v) (by rintro ⟨q, -⟩; cases q)]
theorem PW_asked (Z : Gm) (S : St) (v : Int) : PW Z (s2 S 0 2 v) = (PW Z S).set 0 (Z.2.1 0, .inr (0, [vI (S 0 0), vI (S 0 1), .ref (Z.2.1 1), .ref (Z.2.1 2), .ref (Z.2.1 3), .ref (Z.2.1 4), .ref (Z.2.1 5), .ref (Z.2.1 6), vI (S 0 2), .ref (Z.2.1 7), .ref (Z.2.1 8), .ref (Z.2.1 9), .ref (Z.2.1 10), vI (S 0 3), vI (S 0 4), .ref (Z.2.1 11)].set 8 (vI v))) := by
  simp only [PW, List.set_cons_succ, List.set_cons_zero, s2_eq, ar_s2n S (show (1 : Nat) ≠ 0 by decide), ar_s2n S (show (2 : Nat) ≠ 0 by decide), ar_s2n S (show (3 : Nat) ≠ 0 by decide), ar_s2n S (show (4 : Nat) ≠ 0 by decide), ar_s2n S (show (5 : Nat) ≠ 0 by decide), ar_s2n S (show (6 : Nat) ≠ 0 by decide), ar_s2n S (show (7 : Nat) ≠ 0 by decide), ar_s2n S (show (8 : Nat) ≠ 0 by decide), ar_s2n S (show (9 : Nat) ≠ 0 by decide), ar_s2n S (show (10 : Nat) ≠ 0 by decide), ar_s2n S (show (11 : Nat) ≠ 0 by decide), s2_ne (S := S) (a := 0) (b := 0) (i := 2) (j := 0) (v := v) (by decide), s2_ne (S := S) (a := 0) (b := 0) (i := 2) (j := 1) (v := v) (by decide), s2_ne (S := S) (a := 0) (b := 0) (i := 2) (j := 3) (v := v) (by decide), s2_ne (S := S) (a := 0) (b := 0) (i := 2) (j := 4) (v := v) (by decide)]
theorem PW_askFrom (Z : Gm) (S : St) (i v : Int) : PW Z (s2 S 7 i v) = (PW Z S).set 7 (Z.2.1 7, .inl (Z.2.2.2.1, 8, .inl (ar (s2 S 7 i v) 7))) := by
  simp only [PW, List.set_cons_succ, List.set_cons_zero, ar_s2n S (show (1 : Nat) ≠ 7 by decide), ar_s2n S (show (2 : Nat) ≠ 7 by decide), ar_s2n S (show (3 : Nat) ≠ 7 by decide), ar_s2n S (show (4 : Nat) ≠ 7 by decide), ar_s2n S (show (5 : Nat) ≠ 7 by decide), ar_s2n S (show (6 : Nat) ≠ 7 by decide), ar_s2n S (show (8 : Nat) ≠ 7 by decide), ar_s2n S (show (9 : Nat) ≠ 7 by decide), ar_s2n S (show (10 : Nat) ≠ 7 by decide), ar_s2n S (show (11 : Nat) ≠ 7 by decide), s2_ne (S := S) (a := 7) (b := 0) (i := i) (j := 0) (v := v) (by rintro ⟨q, -⟩; cases q), s2_ne (S := S) (a := 7) (b := 0) (i := i) (j := 1) (v := v) (by rintro ⟨q, -⟩; cases q), s2_ne (S := S) (a := 7) (b := 0) (i := i) (j := 2) (v := v) (by rintro ⟨q, -⟩; cases q), s2_ne (S := S) (a := 7) (b := 0) (i := i) (j := 3) (v := v) (by rintro ⟨q, -⟩; cases q), s2_ne (S := S) (a := 7) (b := 0) (i := i) (j := 4) (v := v) (by rintro ⟨q, -⟩; cases q)]
theorem PW_askUntil (Z : Gm) (S : St) (i v : Int) : PW Z (s2 S 8 i v) = (PW Z S).set 8 (Z.2.1 8, .inl (Z.2.2.2.1, 8, .inl (ar (s2 S 8 i v) 8))) := by
  simp only [PW, List.set_cons_succ, List.set_cons_zero, ar_s2n S (show (1 : Nat) ≠ 8 by decide), ar_s2n S (show (2 : Nat) ≠ 8 by decide), ar_s2n S (show (3 : Nat) ≠ 8 by decide), ar_s2n S (show (4 : Nat) ≠ 8 by decide), ar_s2n S (show (5 : Nat) ≠ 8 by decide), ar_s2n S (show (6 : Nat) ≠ 8 by decide), ar_s2n S (show (7 : Nat) ≠ 8 by decide), ar_s2n S (show (9 : Nat) ≠ 8 by decide), ar_s2n S (show (10 : Nat) ≠ 8 by decide), ar_s2n S (show (11 : Nat) ≠ 8 by decide), s2_ne (S := S) (a := 8) (b := 0) (i := i) (j := 0) (v := v) (by rintro ⟨q, -⟩; cases q), s2_ne (S := S) (a := 8) (b := 0) (i := i) (j := 1) (v := v) (by rintro ⟨q, -⟩; cases q), s2_ne (S := S) (a := 8) (b := 0) (i := i) (j := 2) (v := v) (by rintro ⟨q, -⟩; cases q), s2_ne (S := S) (a := 8) (b := 0) (i := i) (j := 3) (v := v) (by rintro ⟨q, -⟩; cases q), s2_ne (S := S) (a := 8) (b := 0) (i := i) (j := 4) (v := v) (by rintro ⟨q, -⟩; cases q)]
theorem PW_placed (Z : Gm) (S : St) (i v : Int) : PW Z (s2 S 9 i v) = (PW Z S).set 9 (Z.2.1 9, .inl (Z.2.2.1, 8, .inl (ar (s2 S 9 i v) 9))) := by
  simp only [PW, List.set_cons_succ, List.set_cons_zero, ar_s2n S (show (1 : Nat) ≠ 9 by decide), ar_s2n S (show (2 : Nat) ≠ 9 by decide), ar_s2n S (show (3 : Nat) ≠ 9 by decide), ar_s2n S (show (4 : Nat) ≠ 9 by decide), ar_s2n S (show (5 : Nat) ≠ 9 by decide), ar_s2n S (show (6 : Nat) ≠ 9 by decide), ar_s2n S (show (7 : Nat) ≠ 9 by decide), ar_s2n S (show (8 : Nat) ≠ 9 by decide), ar_s2n S (show (10 : Nat) ≠ 9 by decide), ar_s2n S (show (11 : Nat) ≠ 9 by decide), s2_ne (S := S) (a := 9) (b := 0) (i := i) (j := 0) (v := v) (by rintro ⟨q, -⟩; cases q), s2_ne (S := S) (a := 9) (b := 0) (i := i) (j := 1) (v := v) (by rintro ⟨q, -⟩; cases q), s2_ne (S := S) (a := 9) (b := 0) (i := i) (j := 2) (v := v) (by rintro ⟨q, -⟩; cases q), s2_ne (S := S) (a := 9) (b := 0) (i := i) (j := 3) (v := v) (by rintro ⟨q, -⟩; cases q), s2_ne (S := S) (a := 9) (b := 0) (i := i) (j := 4) (v := v) (by rintro ⟨q, -⟩; cases q)]
theorem PW_shut (Z : Gm) (S : St) (i v : Int) : PW Z (s2 S 10 i v) = (PW Z S).set 10 (Z.2.1 10, .inl (Z.2.2.1, 48, .inl (ar (s2 S 10 i v) 10))) := by
  simp only [PW, List.set_cons_succ, List.set_cons_zero, ar_s2n S (show (1 : Nat) ≠ 10 by decide), ar_s2n S (show (2 : Nat) ≠ 10 by decide), ar_s2n S (show (3 : Nat) ≠ 10 by decide), ar_s2n S (show (4 : Nat) ≠ 10 by decide), ar_s2n S (show (5 : Nat) ≠ 10 by decide), ar_s2n S (show (6 : Nat) ≠ 10 by decide), ar_s2n S (show (7 : Nat) ≠ 10 by decide), ar_s2n S (show (8 : Nat) ≠ 10 by decide), ar_s2n S (show (9 : Nat) ≠ 10 by decide), ar_s2n S (show (11 : Nat) ≠ 10 by decide), s2_ne (S := S) (a := 10) (b := 0) (i := i) (j := 0) (v := v) (by rintro ⟨q, -⟩; cases q), s2_ne (S := S) (a := 10) (b := 0) (i := i) (j := 1) (v := v) (by rintro ⟨q, -⟩; cases q), s2_ne (S := S) (a := 10) (b := 0) (i := i) (j := 2) (v := v) (by rintro ⟨q, -⟩; cases q), s2_ne (S := S) (a := 10) (b := 0) (i := i) (j := 3) (v := v) (by rintro ⟨q, -⟩; cases q), s2_ne (S := S) (a := 10) (b := 0) (i := i) (j := 4) (v := v) (by rintro ⟨q, -⟩; cases q)]
theorem PW_lastEnd (Z : Gm) (S : St) (v : Int) : PW Z (s2 S 0 3 v) = (PW Z S).set 0 (Z.2.1 0, .inr (0, [vI (S 0 0), vI (S 0 1), .ref (Z.2.1 1), .ref (Z.2.1 2), .ref (Z.2.1 3), .ref (Z.2.1 4), .ref (Z.2.1 5), .ref (Z.2.1 6), vI (S 0 2), .ref (Z.2.1 7), .ref (Z.2.1 8), .ref (Z.2.1 9), .ref (Z.2.1 10), vI (S 0 3), vI (S 0 4), .ref (Z.2.1 11)].set 13 (vI v))) := by
  simp only [PW, List.set_cons_succ, List.set_cons_zero, s2_eq, ar_s2n S (show (1 : Nat) ≠ 0 by decide), ar_s2n S (show (2 : Nat) ≠ 0 by decide), ar_s2n S (show (3 : Nat) ≠ 0 by decide), ar_s2n S (show (4 : Nat) ≠ 0 by decide), ar_s2n S (show (5 : Nat) ≠ 0 by decide), ar_s2n S (show (6 : Nat) ≠ 0 by decide), ar_s2n S (show (7 : Nat) ≠ 0 by decide), ar_s2n S (show (8 : Nat) ≠ 0 by decide), ar_s2n S (show (9 : Nat) ≠ 0 by decide), ar_s2n S (show (10 : Nat) ≠ 0 by decide), ar_s2n S (show (11 : Nat) ≠ 0 by decide), s2_ne (S := S) (a := 0) (b := 0) (i := 3) (j := 0) (v := v) (by decide), s2_ne (S := S) (a := 0) (b := 0) (i := 3) (j := 1) (v := v) (by decide), s2_ne (S := S) (a := 0) (b := 0) (i := 3) (j := 2) (v := v) (by decide), s2_ne (S := S) (a := 0) (b := 0) (i := 3) (j := 4) (v := v) (by decide)]
theorem PW_planKnown (Z : Gm) (S : St) (v : Int) : PW Z (s2 S 0 4 v) = (PW Z S).set 0 (Z.2.1 0, .inr (0, [vI (S 0 0), vI (S 0 1), .ref (Z.2.1 1), .ref (Z.2.1 2), .ref (Z.2.1 3), .ref (Z.2.1 4), .ref (Z.2.1 5), .ref (Z.2.1 6), vI (S 0 2), .ref (Z.2.1 7), .ref (Z.2.1 8), .ref (Z.2.1 9), .ref (Z.2.1 10), vI (S 0 3), vI (S 0 4), .ref (Z.2.1 11)].set 14 (vI v))) := by
  simp only [PW, List.set_cons_succ, List.set_cons_zero, s2_eq, ar_s2n S (show (1 : Nat) ≠ 0 by decide), ar_s2n S (show (2 : Nat) ≠ 0 by decide), ar_s2n S (show (3 : Nat) ≠ 0 by decide), ar_s2n S (show (4 : Nat) ≠ 0 by decide), ar_s2n S (show (5 : Nat) ≠ 0 by decide), ar_s2n S (show (6 : Nat) ≠ 0 by decide), ar_s2n S (show (7 : Nat) ≠ 0 by decide), ar_s2n S (show (8 : Nat) ≠ 0 by decide), ar_s2n S (show (9 : Nat) ≠ 0 by decide), ar_s2n S (show (10 : Nat) ≠ 0 by decide), ar_s2n S (show (11 : Nat) ≠ 0 by decide), s2_ne (S := S) (a := 0) (b := 0) (i := 4) (j := 0) (v := v) (by decide), s2_ne (S := S) (a := 0) (b := 0) (i := 4) (j := 1) (v := v) (by decide), s2_ne (S := S) (a := 0) (b := 0) (i := 4) (j := 2) (v := v) (by decide), s2_ne (S := S) (a := 0) (b := 0) (i := 4) (j := 3) (v := v) (by decide)]
theorem PW_plan (Z : Gm) (S : St) (i v : Int) : PW Z (s2 S 11 i v) = (PW Z S).set 11 (Z.2.1 11, .inl (Z.2.2.2.1, 8, .inl (ar (s2 S 11 i v) 11))) := by
  simp only [PW, List.set_cons_succ, List.set_cons_zero, ar_s2n S (show (1 : Nat) ≠ 11 by decide), ar_s2n S (show (2 : Nat) ≠ 11 by decide), ar_s2n S (show (3 : Nat) ≠ 11 by decide), ar_s2n S (show (4 : Nat) ≠ 11 by decide), ar_s2n S (show (5 : Nat) ≠ 11 by decide), ar_s2n S (show (6 : Nat) ≠ 11 by decide), ar_s2n S (show (7 : Nat) ≠ 11 by decide), ar_s2n S (show (8 : Nat) ≠ 11 by decide), ar_s2n S (show (9 : Nat) ≠ 11 by decide), ar_s2n S (show (10 : Nat) ≠ 11 by decide), s2_ne (S := S) (a := 11) (b := 0) (i := i) (j := 0) (v := v) (by rintro ⟨q, -⟩; cases q), s2_ne (S := S) (a := 11) (b := 0) (i := i) (j := 1) (v := v) (by rintro ⟨q, -⟩; cases q), s2_ne (S := S) (a := 11) (b := 0) (i := i) (j := 2) (v := v) (by rintro ⟨q, -⟩; cases q), s2_ne (S := S) (a := 11) (b := 0) (i := i) (j := 3) (v := v) (by rintro ⟨q, -⟩; cases q), s2_ne (S := S) (a := 11) (b := 0) (i := i) (j := 4) (v := v) (by rintro ⟨q, -⟩; cases q)]
theorem okP_used {S : St} (h : okP S) {j v : Int} (h1 : 0 ≤ v) (h2 : v ≤ 1) : okP (s2 S 1 j v) := by
  exact ⟨by rw [s2_ne (by rintro ⟨q, -⟩; cases q)]; exact h.1, by rw [s2_ne (by rintro ⟨q, -⟩; cases q)]; exact h.2.1, by rw [s2_ne (by rintro ⟨q, -⟩; cases q)]; exact h.2.2.1, by rw [s2_ne (by rintro ⟨q, -⟩; cases q)]; exact h.2.2.2.1, by rw [s2_ne (by rintro ⟨q, -⟩; cases q)]; exact h.2.2.2.2.1, s2_bd h.2.2.2.2.2.1 h1 h2, fun i => by rw [s2_ne (by rintro ⟨q, -⟩; cases q)]; exact h.2.2.2.2.2.2.1 i, fun i => by rw [s2_ne (by rintro ⟨q, -⟩; cases q)]; exact h.2.2.2.2.2.2.2.1 i, fun i => by rw [s2_ne (by rintro ⟨q, -⟩; cases q)]; exact h.2.2.2.2.2.2.2.2.1 i, fun i => by rw [s2_ne (by rintro ⟨q, -⟩; cases q)]; exact h.2.2.2.2.2.2.2.2.2.1 i, fun i => by rw [s2_ne (by rintro ⟨q, -⟩; cases q)]; exact h.2.2.2.2.2.2.2.2.2.2.1 i, fun i => by rw [s2_ne (by rintro ⟨q, -⟩; cases q)]; exact h.2.2.2.2.2.2.2.2.2.2.2.1 i, fun i => by rw [s2_ne (by rintro ⟨q, -⟩; cases q)]; exact h.2.2.2.2.2.2.2.2.2.2.2.2.1 i, fun i => by rw [s2_ne (by rintro ⟨q, -⟩; cases q)]; exact h.2.2.2.2.2.2.2.2.2.2.2.2.2.1 i, fun i => by rw [s2_ne (by rintro ⟨q, -⟩; cases q)]; exact h.2.2.2.2.2.2.2.2.2.2.2.2.2.2.1 i, fun i => by rw [s2_ne (by rintro ⟨q, -⟩; cases q)]; exact h.2.2.2.2.2.2.2.2.2.2.2.2.2.2.2 i⟩
theorem okP_from {S : St} (h : okP S) {j v : Int} (h1 : (-128) ≤ v) (h2 : v ≤ 127) : okP (s2 S 2 j v) := by
  exact ⟨by rw [s2_ne (by rintro ⟨q, -⟩; cases q)]; exact h.1, by rw [s2_ne (by rintro ⟨q, -⟩; cases q)]; exact h.2.1, by rw [s2_ne (by rintro ⟨q, -⟩; cases q)]; exact h.2.2.1, by rw [s2_ne (by rintro ⟨q, -⟩; cases q)]; exact h.2.2.2.1, by rw [s2_ne (by rintro ⟨q, -⟩; cases q)]; exact h.2.2.2.2.1, fun i => by rw [s2_ne (by rintro ⟨q, -⟩; cases q)]; exact h.2.2.2.2.2.1 i, s2_bd h.2.2.2.2.2.2.1 h1 h2, fun i => by rw [s2_ne (by rintro ⟨q, -⟩; cases q)]; exact h.2.2.2.2.2.2.2.1 i, fun i => by rw [s2_ne (by rintro ⟨q, -⟩; cases q)]; exact h.2.2.2.2.2.2.2.2.1 i, fun i => by rw [s2_ne (by rintro ⟨q, -⟩; cases q)]; exact h.2.2.2.2.2.2.2.2.2.1 i, fun i => by rw [s2_ne (by rintro ⟨q, -⟩; cases q)]; exact h.2.2.2.2.2.2.2.2.2.2.1 i, fun i => by rw [s2_ne (by rintro ⟨q, -⟩; cases q)]; exact h.2.2.2.2.2.2.2.2.2.2.2.1 i, fun i => by rw [s2_ne (by rintro ⟨q, -⟩; cases q)]; exact h.2.2.2.2.2.2.2.2.2.2.2.2.1 i, fun i => by rw [s2_ne (by rintro ⟨q, -⟩; cases q)]; exact h.2.2.2.2.2.2.2.2.2.2.2.2.2.1 i, fun i => by rw [s2_ne (by rintro ⟨q, -⟩; cases q)]; exact h.2.2.2.2.2.2.2.2.2.2.2.2.2.2.1 i, fun i => by rw [s2_ne (by rintro ⟨q, -⟩; cases q)]; exact h.2.2.2.2.2.2.2.2.2.2.2.2.2.2.2 i⟩
theorem okP_until {S : St} (h : okP S) {j v : Int} (h1 : (-128) ≤ v) (h2 : v ≤ 127) : okP (s2 S 3 j v) := by
  exact ⟨by rw [s2_ne (by rintro ⟨q, -⟩; cases q)]; exact h.1, by rw [s2_ne (by rintro ⟨q, -⟩; cases q)]; exact h.2.1, by rw [s2_ne (by rintro ⟨q, -⟩; cases q)]; exact h.2.2.1, by rw [s2_ne (by rintro ⟨q, -⟩; cases q)]; exact h.2.2.2.1, by rw [s2_ne (by rintro ⟨q, -⟩; cases q)]; exact h.2.2.2.2.1, fun i => by rw [s2_ne (by rintro ⟨q, -⟩; cases q)]; exact h.2.2.2.2.2.1 i, fun i => by rw [s2_ne (by rintro ⟨q, -⟩; cases q)]; exact h.2.2.2.2.2.2.1 i, s2_bd h.2.2.2.2.2.2.2.1 h1 h2, fun i => by rw [s2_ne (by rintro ⟨q, -⟩; cases q)]; exact h.2.2.2.2.2.2.2.2.1 i, fun i => by rw [s2_ne (by rintro ⟨q, -⟩; cases q)]; exact h.2.2.2.2.2.2.2.2.2.1 i, fun i => by rw [s2_ne (by rintro ⟨q, -⟩; cases q)]; exact h.2.2.2.2.2.2.2.2.2.2.1 i, fun i => by rw [s2_ne (by rintro ⟨q, -⟩; cases q)]; exact h.2.2.2.2.2.2.2.2.2.2.2.1 i, fun i => by rw [s2_ne (by rintro ⟨q, -⟩; cases q)]; exact h.2.2.2.2.2.2.2.2.2.2.2.2.1 i, fun i => by rw [s2_ne (by rintro ⟨q, -⟩; cases q)]; exact h.2.2.2.2.2.2.2.2.2.2.2.2.2.1 i, fun i => by rw [s2_ne (by rintro ⟨q, -⟩; cases q)]; exact h.2.2.2.2.2.2.2.2.2.2.2.2.2.2.1 i, fun i => by rw [s2_ne (by rintro ⟨q, -⟩; cases q)]; exact h.2.2.2.2.2.2.2.2.2.2.2.2.2.2.2 i⟩
theorem okP_blockUsed {S : St} (h : okP S) {j v : Int} (h1 : 0 ≤ v) (h2 : v ≤ 1) : okP (s2 S 4 j v) := by
  exact ⟨by rw [s2_ne (by rintro ⟨q, -⟩; cases q)]; exact h.1, by rw [s2_ne (by rintro ⟨q, -⟩; cases q)]; exact h.2.1, by rw [s2_ne (by rintro ⟨q, -⟩; cases q)]; exact h.2.2.1, by rw [s2_ne (by rintro ⟨q, -⟩; cases q)]; exact h.2.2.2.1, by rw [s2_ne (by rintro ⟨q, -⟩; cases q)]; exact h.2.2.2.2.1, fun i => by rw [s2_ne (by rintro ⟨q, -⟩; cases q)]; exact h.2.2.2.2.2.1 i, fun i => by rw [s2_ne (by rintro ⟨q, -⟩; cases q)]; exact h.2.2.2.2.2.2.1 i, fun i => by rw [s2_ne (by rintro ⟨q, -⟩; cases q)]; exact h.2.2.2.2.2.2.2.1 i, s2_bd h.2.2.2.2.2.2.2.2.1 h1 h2, fun i => by rw [s2_ne (by rintro ⟨q, -⟩; cases q)]; exact h.2.2.2.2.2.2.2.2.2.1 i, fun i => by rw [s2_ne (by rintro ⟨q, -⟩; cases q)]; exact h.2.2.2.2.2.2.2.2.2.2.1 i, fun i => by rw [s2_ne (by rintro ⟨q, -⟩; cases q)]; exact h.2.2.2.2.2.2.2.2.2.2.2.1 i, fun i => by rw [s2_ne (by rintro ⟨q, -⟩; cases q)]; exact h.2.2.2.2.2.2.2.2.2.2.2.2.1 i, fun i => by rw [s2_ne (by rintro ⟨q, -⟩; cases q)]; exact h.2.2.2.2.2.2.2.2.2.2.2.2.2.1 i, fun i => by rw [s2_ne (by rintro ⟨q, -⟩; cases q)]; exact h.2.2.2.2.2.2.2.2.2.2.2.2.2.2.1 i, fun i => by rw [s2_ne (by rintro ⟨q, -⟩; cases q)]; exact h.2.2.2.2.2.2.2.2.2.2.2.2.2.2.2 i⟩
theorem okP_blockFrom {S : St} (h : okP S) {j v : Int} (h1 : (-128) ≤ v) (h2 : v ≤ 127) : okP (s2 S 5 j v) := by
  exact ⟨by rw [s2_ne (by rintro ⟨q, -⟩; cases q)]; exact h.1, by rw [s2_ne (by rintro ⟨q, -⟩; cases q)]; exact h.2.1, by rw [s2_ne (by rintro ⟨q, -⟩; cases q)]; exact h.2.2.1, by rw [s2_ne (by rintro ⟨q, -⟩; cases q)]; exact h.2.2.2.1, by rw [s2_ne (by rintro ⟨q, -⟩; cases q)]; exact h.2.2.2.2.1, fun i => by rw [s2_ne (by rintro ⟨q, -⟩; cases q)]; exact h.2.2.2.2.2.1 i, fun i => by rw [s2_ne (by rintro ⟨q, -⟩; cases q)]; exact h.2.2.2.2.2.2.1 i, fun i => by rw [s2_ne (by rintro ⟨q, -⟩; cases q)]; exact h.2.2.2.2.2.2.2.1 i, fun i => by rw [s2_ne (by rintro ⟨q, -⟩; cases q)]; exact h.2.2.2.2.2.2.2.2.1 i, s2_bd h.2.2.2.2.2.2.2.2.2.1 h1 h2, fun i => by rw [s2_ne (by rintro ⟨q, -⟩; cases q)]; exact h.2.2.2.2.2.2.2.2.2.2.1 i, fun i => by rw [s2_ne (by rintro ⟨q, -⟩; cases q)]; exact h.2.2.2.2.2.2.2.2.2.2.2.1 i, fun i => by rw [s2_ne (by rintro ⟨q, -⟩; cases q)]; exact h.2.2.2.2.2.2.2.2.2.2.2.2.1 i, fun i => by rw [s2_ne (by rintro ⟨q, -⟩; cases q)]; exact h.2.2.2.2.2.2.2.2.2.2.2.2.2.1 i, fun i => by rw [s2_ne (by rintro ⟨q, -⟩; cases q)]; exact h.2.2.2.2.2.2.2.2.2.2.2.2.2.2.1 i, fun i => by rw [s2_ne (by rintro ⟨q, -⟩; cases q)]; exact h.2.2.2.2.2.2.2.2.2.2.2.2.2.2.2 i⟩
theorem okP_blockUntil {S : St} (h : okP S) {j v : Int} (h1 : (-128) ≤ v) (h2 : v ≤ 127) : okP (s2 S 6 j v) := by
  exact ⟨by rw [s2_ne (by rintro ⟨q, -⟩; cases q)]; exact h.1, by rw [s2_ne (by rintro ⟨q, -⟩; cases q)]; exact h.2.1, by rw [s2_ne (by rintro ⟨q, -⟩; cases q)]; exact h.2.2.1, by rw [s2_ne (by rintro ⟨q, -⟩; cases q)]; exact h.2.2.2.1, by rw [s2_ne (by rintro ⟨q, -⟩; cases q)]; exact h.2.2.2.2.1, fun i => by rw [s2_ne (by rintro ⟨q, -⟩; cases q)]; exact h.2.2.2.2.2.1 i, fun i => by rw [s2_ne (by rintro ⟨q, -⟩; cases q)]; exact h.2.2.2.2.2.2.1 i, fun i => by rw [s2_ne (by rintro ⟨q, -⟩; cases q)]; exact h.2.2.2.2.2.2.2.1 i, fun i => by rw [s2_ne (by rintro ⟨q, -⟩; cases q)]; exact h.2.2.2.2.2.2.2.2.1 i, fun i => by rw [s2_ne (by rintro ⟨q, -⟩; cases q)]; exact h.2.2.2.2.2.2.2.2.2.1 i, s2_bd h.2.2.2.2.2.2.2.2.2.2.1 h1 h2, fun i => by rw [s2_ne (by rintro ⟨q, -⟩; cases q)]; exact h.2.2.2.2.2.2.2.2.2.2.2.1 i, fun i => by rw [s2_ne (by rintro ⟨q, -⟩; cases q)]; exact h.2.2.2.2.2.2.2.2.2.2.2.2.1 i, fun i => by rw [s2_ne (by rintro ⟨q, -⟩; cases q)]; exact h.2.2.2.2.2.2.2.2.2.2.2.2.2.1 i, fun i => by rw [s2_ne (by rintro ⟨q, -⟩; cases q)]; exact h.2.2.2.2.2.2.2.2.2.2.2.2.2.2.1 i, fun i => by rw [s2_ne (by rintro ⟨q, -⟩; cases q)]; exact h.2.2.2.2.2.2.2.2.2.2.2.2.2.2.2 i⟩
theorem okP_asked {S : St} (h : okP S) {v : Int} (h1 : 0 ≤ v) (h2 : v ≤ 8) : okP (s2 S 0 2 v) := by
  exact ⟨by rw [s2_ne (by decide)]; exact h.1, by rw [s2_ne (by decide)]; exact h.2.1, by rw [s2_eq]; exact ⟨h1, h2⟩, by rw [s2_ne (by decide)]; exact h.2.2.2.1, by rw [s2_ne (by decide)]; exact h.2.2.2.2.1, fun i => by rw [s2_ne (by rintro ⟨q, -⟩; cases q)]; exact h.2.2.2.2.2.1 i, fun i => by rw [s2_ne (by rintro ⟨q, -⟩; cases q)]; exact h.2.2.2.2.2.2.1 i, fun i => by rw [s2_ne (by rintro ⟨q, -⟩; cases q)]; exact h.2.2.2.2.2.2.2.1 i, fun i => by rw [s2_ne (by rintro ⟨q, -⟩; cases q)]; exact h.2.2.2.2.2.2.2.2.1 i, fun i => by rw [s2_ne (by rintro ⟨q, -⟩; cases q)]; exact h.2.2.2.2.2.2.2.2.2.1 i, fun i => by rw [s2_ne (by rintro ⟨q, -⟩; cases q)]; exact h.2.2.2.2.2.2.2.2.2.2.1 i, fun i => by rw [s2_ne (by rintro ⟨q, -⟩; cases q)]; exact h.2.2.2.2.2.2.2.2.2.2.2.1 i, fun i => by rw [s2_ne (by rintro ⟨q, -⟩; cases q)]; exact h.2.2.2.2.2.2.2.2.2.2.2.2.1 i, fun i => by rw [s2_ne (by rintro ⟨q, -⟩; cases q)]; exact h.2.2.2.2.2.2.2.2.2.2.2.2.2.1 i, fun i => by rw [s2_ne (by rintro ⟨q, -⟩; cases q)]; exact h.2.2.2.2.2.2.2.2.2.2.2.2.2.2.1 i, fun i => by rw [s2_ne (by rintro ⟨q, -⟩; cases q)]; exact h.2.2.2.2.2.2.2.2.2.2.2.2.2.2.2 i⟩
theorem okP_askFrom {S : St} (h : okP S) {j v : Int} (h1 : (-128) ≤ v) (h2 : v ≤ 127) : okP (s2 S 7 j v) := by
  exact ⟨by rw [s2_ne (by rintro ⟨q, -⟩; cases q)]; exact h.1, by rw [s2_ne (by rintro ⟨q, -⟩; cases q)]; exact h.2.1, by rw [s2_ne (by rintro ⟨q, -⟩; cases q)]; exact h.2.2.1, by rw [s2_ne (by rintro ⟨q, -⟩; cases q)]; exact h.2.2.2.1, by rw [s2_ne (by rintro ⟨q, -⟩; cases q)]; exact h.2.2.2.2.1, fun i => by rw [s2_ne (by rintro ⟨q, -⟩; cases q)]; exact h.2.2.2.2.2.1 i, fun i => by rw [s2_ne (by rintro ⟨q, -⟩; cases q)]; exact h.2.2.2.2.2.2.1 i, fun i => by rw [s2_ne (by rintro ⟨q, -⟩; cases q)]; exact h.2.2.2.2.2.2.2.1 i, fun i => by rw [s2_ne (by rintro ⟨q, -⟩; cases q)]; exact h.2.2.2.2.2.2.2.2.1 i, fun i => by rw [s2_ne (by rintro ⟨q, -⟩; cases q)]; exact h.2.2.2.2.2.2.2.2.2.1 i, fun i => by rw [s2_ne (by rintro ⟨q, -⟩; cases q)]; exact h.2.2.2.2.2.2.2.2.2.2.1 i, s2_bd h.2.2.2.2.2.2.2.2.2.2.2.1 h1 h2, fun i => by rw [s2_ne (by rintro ⟨q, -⟩; cases q)]; exact h.2.2.2.2.2.2.2.2.2.2.2.2.1 i, fun i => by rw [s2_ne (by rintro ⟨q, -⟩; cases q)]; exact h.2.2.2.2.2.2.2.2.2.2.2.2.2.1 i, fun i => by rw [s2_ne (by rintro ⟨q, -⟩; cases q)]; exact h.2.2.2.2.2.2.2.2.2.2.2.2.2.2.1 i, fun i => by rw [s2_ne (by rintro ⟨q, -⟩; cases q)]; exact h.2.2.2.2.2.2.2.2.2.2.2.2.2.2.2 i⟩
theorem okP_askUntil {S : St} (h : okP S) {j v : Int} (h1 : (-128) ≤ v) (h2 : v ≤ 127) : okP (s2 S 8 j v) := by
  exact ⟨by rw [s2_ne (by rintro ⟨q, -⟩; cases q)]; exact h.1, by rw [s2_ne (by rintro ⟨q, -⟩; cases q)]; exact h.2.1, by rw [s2_ne (by rintro ⟨q, -⟩; cases q)]; exact h.2.2.1, by rw [s2_ne (by rintro ⟨q, -⟩; cases q)]; exact h.2.2.2.1, by rw [s2_ne (by rintro ⟨q, -⟩; cases q)]; exact h.2.2.2.2.1, fun i => by rw [s2_ne (by rintro ⟨q, -⟩; cases q)]; exact h.2.2.2.2.2.1 i, fun i => by rw [s2_ne (by rintro ⟨q, -⟩; cases q)]; exact h.2.2.2.2.2.2.1 i, fun i => by rw [s2_ne (by rintro ⟨q, -⟩; cases q)]; exact h.2.2.2.2.2.2.2.1 i, fun i => by rw [s2_ne (by rintro ⟨q, -⟩; cases q)]; exact h.2.2.2.2.2.2.2.2.1 i, fun i => by rw [s2_ne (by rintro ⟨q, -⟩; cases q)]; exact h.2.2.2.2.2.2.2.2.2.1 i, fun i => by rw [s2_ne (by rintro ⟨q, -⟩; cases q)]; exact h.2.2.2.2.2.2.2.2.2.2.1 i, fun i => by rw [s2_ne (by rintro ⟨q, -⟩; cases q)]; exact h.2.2.2.2.2.2.2.2.2.2.2.1 i, s2_bd h.2.2.2.2.2.2.2.2.2.2.2.2.1 h1 h2, fun i => by rw [s2_ne (by rintro ⟨q, -⟩; cases q)]; exact h.2.2.2.2.2.2.2.2.2.2.2.2.2.1 i, fun i => by rw [s2_ne (by rintro ⟨q, -⟩; cases q)]; exact h.2.2.2.2.2.2.2.2.2.2.2.2.2.2.1 i, fun i => by rw [s2_ne (by rintro ⟨q, -⟩; cases q)]; exact h.2.2.2.2.2.2.2.2.2.2.2.2.2.2.2 i⟩
theorem okP_placed {S : St} (h : okP S) {j v : Int} (h1 : 0 ≤ v) (h2 : v ≤ 1) : okP (s2 S 9 j v) := by
  exact ⟨by rw [s2_ne (by rintro ⟨q, -⟩; cases q)]; exact h.1, by rw [s2_ne (by rintro ⟨q, -⟩; cases q)]; exact h.2.1, by rw [s2_ne (by rintro ⟨q, -⟩; cases q)]; exact h.2.2.1, by rw [s2_ne (by rintro ⟨q, -⟩; cases q)]; exact h.2.2.2.1, by rw [s2_ne (by rintro ⟨q, -⟩; cases q)]; exact h.2.2.2.2.1, fun i => by rw [s2_ne (by rintro ⟨q, -⟩; cases q)]; exact h.2.2.2.2.2.1 i, fun i => by rw [s2_ne (by rintro ⟨q, -⟩; cases q)]; exact h.2.2.2.2.2.2.1 i, fun i => by rw [s2_ne (by rintro ⟨q, -⟩; cases q)]; exact h.2.2.2.2.2.2.2.1 i, fun i => by rw [s2_ne (by rintro ⟨q, -⟩; cases q)]; exact h.2.2.2.2.2.2.2.2.1 i, fun i => by rw [s2_ne (by rintro ⟨q, -⟩; cases q)]; exact h.2.2.2.2.2.2.2.2.2.1 i, fun i => by rw [s2_ne (by rintro ⟨q, -⟩; cases q)]; exact h.2.2.2.2.2.2.2.2.2.2.1 i, fun i => by rw [s2_ne (by rintro ⟨q, -⟩; cases q)]; exact h.2.2.2.2.2.2.2.2.2.2.2.1 i, fun i => by rw [s2_ne (by rintro ⟨q, -⟩; cases q)]; exact h.2.2.2.2.2.2.2.2.2.2.2.2.1 i, s2_bd h.2.2.2.2.2.2.2.2.2.2.2.2.2.1 h1 h2, fun i => by rw [s2_ne (by rintro ⟨q, -⟩; cases q)]; exact h.2.2.2.2.2.2.2.2.2.2.2.2.2.2.1 i, fun i => by rw [s2_ne (by rintro ⟨q, -⟩; cases q)]; exact h.2.2.2.2.2.2.2.2.2.2.2.2.2.2.2 i⟩
theorem okP_shut {S : St} (h : okP S) {j v : Int} (h1 : 0 ≤ v) (h2 : v ≤ 1) : okP (s2 S 10 j v) := by
  exact ⟨by rw [s2_ne (by rintro ⟨q, -⟩; cases q)]; exact h.1, by rw [s2_ne (by rintro ⟨q, -⟩; cases q)]; exact h.2.1, by rw [s2_ne (by rintro ⟨q, -⟩; cases q)]; exact h.2.2.1, by rw [s2_ne (by rintro ⟨q, -⟩; cases q)]; exact h.2.2.2.1, by rw [s2_ne (by rintro ⟨q, -⟩; cases q)]; exact h.2.2.2.2.1, fun i => by rw [s2_ne (by rintro ⟨q, -⟩; cases q)]; exact h.2.2.2.2.2.1 i, fun i => by rw [s2_ne (by rintro ⟨q, -⟩; cases q)]; exact h.2.2.2.2.2.2.1 i, fun i => by rw [s2_ne (by rintro ⟨q, -⟩; cases q)]; exact h.2.2.2.2.2.2.2.1 i, fun i => by rw [s2_ne (by rintro ⟨q, -⟩; cases q)]; exact h.2.2.2.2.2.2.2.2.1 i, fun i => by rw [s2_ne (by rintro ⟨q, -⟩; cases q)]; exact h.2.2.2.2.2.2.2.2.2.1 i, fun i => by rw [s2_ne (by rintro ⟨q, -⟩; cases q)]; exact h.2.2.2.2.2.2.2.2.2.2.1 i, fun i => by rw [s2_ne (by rintro ⟨q, -⟩; cases q)]; exact h.2.2.2.2.2.2.2.2.2.2.2.1 i, fun i => by rw [s2_ne (by rintro ⟨q, -⟩; cases q)]; exact h.2.2.2.2.2.2.2.2.2.2.2.2.1 i, fun i => by rw [s2_ne (by rintro ⟨q, -⟩; cases q)]; exact h.2.2.2.2.2.2.2.2.2.2.2.2.2.1 i, s2_bd h.2.2.2.2.2.2.2.2.2.2.2.2.2.2.1 h1 h2, fun i => by rw [s2_ne (by rintro ⟨q, -⟩; cases q)]; exact h.2.2.2.2.2.2.2.2.2.2.2.2.2.2.2 i⟩
theorem okP_lastEnd {S : St} (h : okP S) {v : Int} (h1 : 0 ≤ v) (h2 : v ≤ 127) : okP (s2 S 0 3 v) := by
  exact ⟨by rw [s2_ne (by decide)]; exact h.1, by rw [s2_ne (by decide)]; exact h.2.1, by rw [s2_ne (by decide)]; exact h.2.2.1, by rw [s2_eq]; exact ⟨h1, h2⟩, by rw [s2_ne (by decide)]; exact h.2.2.2.2.1, fun i => by rw [s2_ne (by rintro ⟨q, -⟩; cases q)]; exact h.2.2.2.2.2.1 i, fun i => by rw [s2_ne (by rintro ⟨q, -⟩; cases q)]; exact h.2.2.2.2.2.2.1 i, fun i => by rw [s2_ne (by rintro ⟨q, -⟩; cases q)]; exact h.2.2.2.2.2.2.2.1 i, fun i => by rw [s2_ne (by rintro ⟨q, -⟩; cases q)]; exact h.2.2.2.2.2.2.2.2.1 i, fun i => by rw [s2_ne (by rintro ⟨q, -⟩; cases q)]; exact h.2.2.2.2.2.2.2.2.2.1 i, fun i => by rw [s2_ne (by rintro ⟨q, -⟩; cases q)]; exact h.2.2.2.2.2.2.2.2.2.2.1 i, fun i => by rw [s2_ne (by rintro ⟨q, -⟩; cases q)]; exact h.2.2.2.2.2.2.2.2.2.2.2.1 i, fun i => by rw [s2_ne (by rintro ⟨q, -⟩; cases q)]; exact h.2.2.2.2.2.2.2.2.2.2.2.2.1 i, fun i => by rw [s2_ne (by rintro ⟨q, -⟩; cases q)]; exact h.2.2.2.2.2.2.2.2.2.2.2.2.2.1 i, fun i => by rw [s2_ne (by rintro ⟨q, -⟩; cases q)]; exact h.2.2.2.2.2.2.2.2.2.2.2.2.2.2.1 i, fun i => by rw [s2_ne (by rintro ⟨q, -⟩; cases q)]; exact h.2.2.2.2.2.2.2.2.2.2.2.2.2.2.2 i⟩
theorem okP_planKnown {S : St} (h : okP S) {v : Int} (h1 : 0 ≤ v) (h2 : v ≤ 1) : okP (s2 S 0 4 v) := by
  exact ⟨by rw [s2_ne (by decide)]; exact h.1, by rw [s2_ne (by decide)]; exact h.2.1, by rw [s2_ne (by decide)]; exact h.2.2.1, by rw [s2_ne (by decide)]; exact h.2.2.2.1, by rw [s2_eq]; exact ⟨h1, h2⟩, fun i => by rw [s2_ne (by rintro ⟨q, -⟩; cases q)]; exact h.2.2.2.2.2.1 i, fun i => by rw [s2_ne (by rintro ⟨q, -⟩; cases q)]; exact h.2.2.2.2.2.2.1 i, fun i => by rw [s2_ne (by rintro ⟨q, -⟩; cases q)]; exact h.2.2.2.2.2.2.2.1 i, fun i => by rw [s2_ne (by rintro ⟨q, -⟩; cases q)]; exact h.2.2.2.2.2.2.2.2.1 i, fun i => by rw [s2_ne (by rintro ⟨q, -⟩; cases q)]; exact h.2.2.2.2.2.2.2.2.2.1 i, fun i => by rw [s2_ne (by rintro ⟨q, -⟩; cases q)]; exact h.2.2.2.2.2.2.2.2.2.2.1 i, fun i => by rw [s2_ne (by rintro ⟨q, -⟩; cases q)]; exact h.2.2.2.2.2.2.2.2.2.2.2.1 i, fun i => by rw [s2_ne (by rintro ⟨q, -⟩; cases q)]; exact h.2.2.2.2.2.2.2.2.2.2.2.2.1 i, fun i => by rw [s2_ne (by rintro ⟨q, -⟩; cases q)]; exact h.2.2.2.2.2.2.2.2.2.2.2.2.2.1 i, fun i => by rw [s2_ne (by rintro ⟨q, -⟩; cases q)]; exact h.2.2.2.2.2.2.2.2.2.2.2.2.2.2.1 i, fun i => by rw [s2_ne (by rintro ⟨q, -⟩; cases q)]; exact h.2.2.2.2.2.2.2.2.2.2.2.2.2.2.2 i⟩
theorem okP_plan {S : St} (h : okP S) {j v : Int} (h1 : (-128) ≤ v) (h2 : v ≤ 127) : okP (s2 S 11 j v) := by
  exact ⟨by rw [s2_ne (by rintro ⟨q, -⟩; cases q)]; exact h.1, by rw [s2_ne (by rintro ⟨q, -⟩; cases q)]; exact h.2.1, by rw [s2_ne (by rintro ⟨q, -⟩; cases q)]; exact h.2.2.1, by rw [s2_ne (by rintro ⟨q, -⟩; cases q)]; exact h.2.2.2.1, by rw [s2_ne (by rintro ⟨q, -⟩; cases q)]; exact h.2.2.2.2.1, fun i => by rw [s2_ne (by rintro ⟨q, -⟩; cases q)]; exact h.2.2.2.2.2.1 i, fun i => by rw [s2_ne (by rintro ⟨q, -⟩; cases q)]; exact h.2.2.2.2.2.2.1 i, fun i => by rw [s2_ne (by rintro ⟨q, -⟩; cases q)]; exact h.2.2.2.2.2.2.2.1 i, fun i => by rw [s2_ne (by rintro ⟨q, -⟩; cases q)]; exact h.2.2.2.2.2.2.2.2.1 i, fun i => by rw [s2_ne (by rintro ⟨q, -⟩; cases q)]; exact h.2.2.2.2.2.2.2.2.2.1 i, fun i => by rw [s2_ne (by rintro ⟨q, -⟩; cases q)]; exact h.2.2.2.2.2.2.2.2.2.2.1 i, fun i => by rw [s2_ne (by rintro ⟨q, -⟩; cases q)]; exact h.2.2.2.2.2.2.2.2.2.2.2.1 i, fun i => by rw [s2_ne (by rintro ⟨q, -⟩; cases q)]; exact h.2.2.2.2.2.2.2.2.2.2.2.2.1 i, fun i => by rw [s2_ne (by rintro ⟨q, -⟩; cases q)]; exact h.2.2.2.2.2.2.2.2.2.2.2.2.2.1 i, fun i => by rw [s2_ne (by rintro ⟨q, -⟩; cases q)]; exact h.2.2.2.2.2.2.2.2.2.2.2.2.2.2.1 i, s2_bd h.2.2.2.2.2.2.2.2.2.2.2.2.2.2.2 h1 h2⟩
section JP
variable {X : Cx} {cc : ByteArray} {nL lev pc : Nat} {ret : Option FieldType} {post : Int → St → Prop} {S : St} {L : List (Option Value)} {st : List Value}
theorem jp_gf_length (hC : CX X R_P cc nL ret lev) (hG : GP X) (hd : decode cc pc = .ok (.getfield 44, 3)) (k : 1 ≤ S 0 0 → S 0 0 ≤ 6 → J X nL ret post S (pc + 3) L (vI (S 0 0) :: st)) : J X nL ret post S pc L (.ref (gA X 0) :: st) := by
  intro ho H locs ls hP hD hS hl
  have hb : okP S := hG.2 ▸ ho
  exact va_get (D := (xZ X).1) (ci := 0) (C := R_P) (T := F_P) (N := 16) hC.1 hC.2.1 hC.2.2.2.2.2.2.1 ig_P hC.2.2.2.2.2.1 hC.2.2.2.2.2.2.2.1 (hG.1 ▸ hP) 0 rfl rfl 0 (by decide) (hC.2.2.2.2.2.2.1 (.fieldLink R_P 44 "EqualJobPlanner" "length" "I") gf_P_44) (fun _ h9 => h9) rfl hd (k hb.1.1 hb.1.2 ho H locs ls hP hD hS hl)
theorem jp_gf_capacity (hC : CX X R_P cc nL ret lev) (hG : GP X) (hd : decode cc pc = .ok (.getfield 48, 3)) (k : 1 ≤ S 0 1 → S 0 1 ≤ 6 → J X nL ret post S (pc + 3) L (vI (S 0 1) :: st)) : J X nL ret post S pc L (.ref (gA X 0) :: st) := by
  intro ho H locs ls hP hD hS hl
  have hb : okP S := hG.2 ▸ ho
  exact va_get (D := (xZ X).1) (ci := 0) (C := R_P) (T := F_P) (N := 16) hC.1 hC.2.1 hC.2.2.2.2.2.2.1 ig_P hC.2.2.2.2.2.1 hC.2.2.2.2.2.2.2.1 (hG.1 ▸ hP) 0 rfl rfl 1 (by decide) (hC.2.2.2.2.2.2.1 (.fieldLink R_P 48 "EqualJobPlanner" "capacity" "I") gf_P_48) (fun _ h9 => h9) rfl hd (k hb.2.1.1 hb.2.1.2 ho H locs ls hP hD hS hl)
theorem jp_gf_used (hC : CX X R_P cc nL ret lev) (hG : GP X) (hd : decode cc pc = .ok (.getfield 7, 3)) (k : J X nL ret post S (pc + 3) L (.ref (gA X 1) :: st)) : J X nL ret post S pc L (.ref (gA X 0) :: st) := by
  intro ho H locs ls hP hD hS hl
  exact va_get (D := (xZ X).1) (ci := 0) (C := R_P) (T := F_P) (N := 16) hC.1 hC.2.1 hC.2.2.2.2.2.2.1 ig_P hC.2.2.2.2.2.1 hC.2.2.2.2.2.2.2.1 (hG.1 ▸ hP) 0 rfl rfl 2 (by decide) (hC.2.2.2.2.2.2.1 (.fieldLink R_P 7 "EqualJobPlanner" "used" "[Z") gf_P_7) (fun _ h9 => h9) rfl hd (k ho H locs ls hP hD hS hl)
theorem jp_ld_used (hC : CX X R_P cc nL ret lev) (hG : GP X) {i : Int} (hd : decode cc pc = .ok (.baload, 1)) (k : 0 ≤ S 1 i → S 1 i ≤ 1 → J X nL ret post S (pc + 1) L (vI (S 1 i) :: st)) (h1 : 0 ≤ i := by omega) (h2 : i < 8 := by omega) : J X nL ret post S pc L (vI i :: .ref (gA X 1) :: st) := by
  intro ho H locs ls hP hD hS hl
  have hb : okP S := hG.2 ▸ ho
  refine va_zald hC.1 hC.2.1 hC.2.2.2.2.2.2.2.1 (show va_P (xZ X).1 classes (PW (xZ X) S) H from hG.1 ▸ hP) 1 0 rfl rfl (oi_in h1 (by omega) (by decide)) hd ?_
  rw [oi_clamp h1 (by omega)]
  have e : ar S 1 i.toNat = Int32.ofInt (S 1 i) := by unfold ar; rw [Int.toNat_of_nonneg h1]
  rw [e]
  exact k (hb.2.2.2.2.2.1 i).1 (hb.2.2.2.2.2.1 i).2 ho H locs ls hP hD hS hl
theorem jp_st_used (hC : CX X R_P cc nL ret lev) (hG : GP X) {i v : Int} (hd : decode cc pc = .ok (.bastore, 1)) (k : J X nL ret post (s2 S 1 i v) (pc + 1) L st) (h0 : 0 ≤ i := by omega) (h3 : i < 8 := by omega) (h1 : 0 ≤ v := by omega) (h2 : v ≤ 1 := by omega) : J X nL ret post S pc L (vI v :: vI i :: .ref (gA X 1) :: st) := by
  intro ho H locs ls hP hD hS hl
  have hb : okP S := hG.2 ▸ ho
  refine va_zast hC.1 hC.2.1 hC.2.2.2.2.2.2.2.1 (show va_P (xZ X).1 classes (PW (xZ X) S) H from hG.1 ▸ hP) (show va_D (xA X) (PW (xZ X) S) from hG.1 ▸ hD) hS 1 0 rfl rfl (oi_in h0 (by omega) (by decide)) hd (fun H1 locs1 hP1 hD1 hS1 => ?_)
  rw [oi_clamp h0 (by omega)] at hP1 hD1
  rw [oi_nz h1 h2] at hP1 hD1
  rw [ar_s2 S 1 h0, ← PW_used] at hP1 hD1
  exact k (hG.2 ▸ okP_used hb h1 h2) H1 locs1 ls (hG.1 ▸ hP1) (hG.1 ▸ hD1) hS1 hl
theorem jp_gf_from (hC : CX X R_P cc nL ret lev) (hG : GP X) (hd : decode cc pc = .ok (.getfield 13, 3)) (k : J X nL ret post S (pc + 3) L (.ref (gA X 2) :: st)) : J X nL ret post S pc L (.ref (gA X 0) :: st) := by
  intro ho H locs ls hP hD hS hl
  exact va_get (D := (xZ X).1) (ci := 0) (C := R_P) (T := F_P) (N := 16) hC.1 hC.2.1 hC.2.2.2.2.2.2.1 ig_P hC.2.2.2.2.2.1 hC.2.2.2.2.2.2.2.1 (hG.1 ▸ hP) 0 rfl rfl 3 (by decide) (hC.2.2.2.2.2.2.1 (.fieldLink R_P 13 "EqualJobPlanner" "from" "[B") gf_P_13) (fun _ h9 => h9) rfl hd (k ho H locs ls hP hD hS hl)
theorem jp_ld_from (hC : CX X R_P cc nL ret lev) (hG : GP X) {i : Int} (hd : decode cc pc = .ok (.baload, 1)) (k : (-128) ≤ S 2 i → S 2 i ≤ 127 → J X nL ret post S (pc + 1) L (vI (S 2 i) :: st)) (h1 : 0 ≤ i := by omega) (h2 : i < 8 := by omega) : J X nL ret post S pc L (vI i :: .ref (gA X 2) :: st) := by
  intro ho H locs ls hP hD hS hl
  have hb : okP S := hG.2 ▸ ho
  refine va_bald hC.1 hC.2.1 hC.2.2.2.2.2.2.2.1 (show va_P (xZ X).1 classes (PW (xZ X) S) H from hG.1 ▸ hP) 2 1 rfl rfl (oi_in h1 (by omega) (by decide)) hd ?_
  rw [oi_clamp h1 (by omega)]
  have e : ar S 2 i.toNat = Int32.ofInt (S 2 i) := by unfold ar; rw [Int.toNat_of_nonneg h1]
  rw [e]
  exact k (hb.2.2.2.2.2.2.1 i).1 (hb.2.2.2.2.2.2.1 i).2 ho H locs ls hP hD hS hl
theorem jp_st_from (hC : CX X R_P cc nL ret lev) (hG : GP X) {i v : Int} (hd : decode cc pc = .ok (.bastore, 1)) (k : J X nL ret post (s2 S 2 i v) (pc + 1) L st) (h0 : 0 ≤ i := by omega) (h3 : i < 8 := by omega) (h1 : (-128) ≤ v := by omega) (h2 : v ≤ 127 := by omega) : J X nL ret post S pc L (vI v :: vI i :: .ref (gA X 2) :: st) := by
  intro ho H locs ls hP hD hS hl
  have hb : okP S := hG.2 ▸ ho
  refine va_bast hC.1 hC.2.1 hC.2.2.2.2.2.2.2.1 (show va_P (xZ X).1 classes (PW (xZ X) S) H from hG.1 ▸ hP) (show va_D (xA X) (PW (xZ X) S) from hG.1 ▸ hD) hS 2 1 rfl rfl (oi_in h0 (by omega) (by decide)) hd (fun H1 locs1 hP1 hD1 hS1 => ?_)
  rw [oi_clamp h0 (by omega)] at hP1 hD1
  rw [oi_nb h1 h2] at hP1 hD1
  rw [ar_s2 S 2 h0, ← PW_from] at hP1 hD1
  exact k (hG.2 ▸ okP_from hb h1 h2) H1 locs1 ls (hG.1 ▸ hP1) (hG.1 ▸ hD1) hS1 hl
theorem jp_gf_until (hC : CX X R_P cc nL ret lev) (hG : GP X) (hd : decode cc pc = .ok (.getfield 17, 3)) (k : J X nL ret post S (pc + 3) L (.ref (gA X 3) :: st)) : J X nL ret post S pc L (.ref (gA X 0) :: st) := by
  intro ho H locs ls hP hD hS hl
  exact va_get (D := (xZ X).1) (ci := 0) (C := R_P) (T := F_P) (N := 16) hC.1 hC.2.1 hC.2.2.2.2.2.2.1 ig_P hC.2.2.2.2.2.1 hC.2.2.2.2.2.2.2.1 (hG.1 ▸ hP) 0 rfl rfl 4 (by decide) (hC.2.2.2.2.2.2.1 (.fieldLink R_P 17 "EqualJobPlanner" "until" "[B") gf_P_17) (fun _ h9 => h9) rfl hd (k ho H locs ls hP hD hS hl)
theorem jp_ld_until (hC : CX X R_P cc nL ret lev) (hG : GP X) {i : Int} (hd : decode cc pc = .ok (.baload, 1)) (k : (-128) ≤ S 3 i → S 3 i ≤ 127 → J X nL ret post S (pc + 1) L (vI (S 3 i) :: st)) (h1 : 0 ≤ i := by omega) (h2 : i < 8 := by omega) : J X nL ret post S pc L (vI i :: .ref (gA X 3) :: st) := by
  intro ho H locs ls hP hD hS hl
  have hb : okP S := hG.2 ▸ ho
  refine va_bald hC.1 hC.2.1 hC.2.2.2.2.2.2.2.1 (show va_P (xZ X).1 classes (PW (xZ X) S) H from hG.1 ▸ hP) 3 1 rfl rfl (oi_in h1 (by omega) (by decide)) hd ?_
  rw [oi_clamp h1 (by omega)]
  have e : ar S 3 i.toNat = Int32.ofInt (S 3 i) := by unfold ar; rw [Int.toNat_of_nonneg h1]
  rw [e]
  exact k (hb.2.2.2.2.2.2.2.1 i).1 (hb.2.2.2.2.2.2.2.1 i).2 ho H locs ls hP hD hS hl
theorem jp_st_until (hC : CX X R_P cc nL ret lev) (hG : GP X) {i v : Int} (hd : decode cc pc = .ok (.bastore, 1)) (k : J X nL ret post (s2 S 3 i v) (pc + 1) L st) (h0 : 0 ≤ i := by omega) (h3 : i < 8 := by omega) (h1 : (-128) ≤ v := by omega) (h2 : v ≤ 127 := by omega) : J X nL ret post S pc L (vI v :: vI i :: .ref (gA X 3) :: st) := by
  intro ho H locs ls hP hD hS hl
  have hb : okP S := hG.2 ▸ ho
  refine va_bast hC.1 hC.2.1 hC.2.2.2.2.2.2.2.1 (show va_P (xZ X).1 classes (PW (xZ X) S) H from hG.1 ▸ hP) (show va_D (xA X) (PW (xZ X) S) from hG.1 ▸ hD) hS 3 1 rfl rfl (oi_in h0 (by omega) (by decide)) hd (fun H1 locs1 hP1 hD1 hS1 => ?_)
  rw [oi_clamp h0 (by omega)] at hP1 hD1
  rw [oi_nb h1 h2] at hP1 hD1
  rw [ar_s2 S 3 h0, ← PW_until] at hP1 hD1
  exact k (hG.2 ▸ okP_until hb h1 h2) H1 locs1 ls (hG.1 ▸ hP1) (hG.1 ▸ hD1) hS1 hl
theorem jp_gf_blockUsed (hC : CX X R_P cc nL ret lev) (hG : GP X) (hd : decode cc pc = .ok (.getfield 20, 3)) (k : J X nL ret post S (pc + 3) L (.ref (gA X 4) :: st)) : J X nL ret post S pc L (.ref (gA X 0) :: st) := by
  intro ho H locs ls hP hD hS hl
  exact va_get (D := (xZ X).1) (ci := 0) (C := R_P) (T := F_P) (N := 16) hC.1 hC.2.1 hC.2.2.2.2.2.2.1 ig_P hC.2.2.2.2.2.1 hC.2.2.2.2.2.2.2.1 (hG.1 ▸ hP) 0 rfl rfl 5 (by decide) (hC.2.2.2.2.2.2.1 (.fieldLink R_P 20 "EqualJobPlanner" "blockUsed" "[Z") gf_P_20) (fun _ h9 => h9) rfl hd (k ho H locs ls hP hD hS hl)
theorem jp_ld_blockUsed (hC : CX X R_P cc nL ret lev) (hG : GP X) {i : Int} (hd : decode cc pc = .ok (.baload, 1)) (k : 0 ≤ S 4 i → S 4 i ≤ 1 → J X nL ret post S (pc + 1) L (vI (S 4 i) :: st)) (h1 : 0 ≤ i := by omega) (h2 : i < 4 := by omega) : J X nL ret post S pc L (vI i :: .ref (gA X 4) :: st) := by
  intro ho H locs ls hP hD hS hl
  have hb : okP S := hG.2 ▸ ho
  refine va_zald hC.1 hC.2.1 hC.2.2.2.2.2.2.2.1 (show va_P (xZ X).1 classes (PW (xZ X) S) H from hG.1 ▸ hP) 4 0 rfl rfl (oi_in h1 (by omega) (by decide)) hd ?_
  rw [oi_clamp h1 (by omega)]
  have e : ar S 4 i.toNat = Int32.ofInt (S 4 i) := by unfold ar; rw [Int.toNat_of_nonneg h1]
  rw [e]
  exact k (hb.2.2.2.2.2.2.2.2.1 i).1 (hb.2.2.2.2.2.2.2.2.1 i).2 ho H locs ls hP hD hS hl
theorem jp_st_blockUsed (hC : CX X R_P cc nL ret lev) (hG : GP X) {i v : Int} (hd : decode cc pc = .ok (.bastore, 1)) (k : J X nL ret post (s2 S 4 i v) (pc + 1) L st) (h0 : 0 ≤ i := by omega) (h3 : i < 4 := by omega) (h1 : 0 ≤ v := by omega) (h2 : v ≤ 1 := by omega) : J X nL ret post S pc L (vI v :: vI i :: .ref (gA X 4) :: st) := by
  intro ho H locs ls hP hD hS hl
  have hb : okP S := hG.2 ▸ ho
  refine va_zast hC.1 hC.2.1 hC.2.2.2.2.2.2.2.1 (show va_P (xZ X).1 classes (PW (xZ X) S) H from hG.1 ▸ hP) (show va_D (xA X) (PW (xZ X) S) from hG.1 ▸ hD) hS 4 0 rfl rfl (oi_in h0 (by omega) (by decide)) hd (fun H1 locs1 hP1 hD1 hS1 => ?_)
  rw [oi_clamp h0 (by omega)] at hP1 hD1
  rw [oi_nz h1 h2] at hP1 hD1
  rw [ar_s2 S 4 h0, ← PW_blockUsed] at hP1 hD1
  exact k (hG.2 ▸ okP_blockUsed hb h1 h2) H1 locs1 ls (hG.1 ▸ hP1) (hG.1 ▸ hD1) hS1 hl
theorem jp_gf_blockFrom (hC : CX X R_P cc nL ret lev) (hG : GP X) (hd : decode cc pc = .ok (.getfield 23, 3)) (k : J X nL ret post S (pc + 3) L (.ref (gA X 5) :: st)) : J X nL ret post S pc L (.ref (gA X 0) :: st) := by
  intro ho H locs ls hP hD hS hl
  exact va_get (D := (xZ X).1) (ci := 0) (C := R_P) (T := F_P) (N := 16) hC.1 hC.2.1 hC.2.2.2.2.2.2.1 ig_P hC.2.2.2.2.2.1 hC.2.2.2.2.2.2.2.1 (hG.1 ▸ hP) 0 rfl rfl 6 (by decide) (hC.2.2.2.2.2.2.1 (.fieldLink R_P 23 "EqualJobPlanner" "blockFrom" "[B") gf_P_23) (fun _ h9 => h9) rfl hd (k ho H locs ls hP hD hS hl)
theorem jp_ld_blockFrom (hC : CX X R_P cc nL ret lev) (hG : GP X) {i : Int} (hd : decode cc pc = .ok (.baload, 1)) (k : (-128) ≤ S 5 i → S 5 i ≤ 127 → J X nL ret post S (pc + 1) L (vI (S 5 i) :: st)) (h1 : 0 ≤ i := by omega) (h2 : i < 4 := by omega) : J X nL ret post S pc L (vI i :: .ref (gA X 5) :: st) := by
  intro ho H locs ls hP hD hS hl
  have hb : okP S := hG.2 ▸ ho
  refine va_bald hC.1 hC.2.1 hC.2.2.2.2.2.2.2.1 (show va_P (xZ X).1 classes (PW (xZ X) S) H from hG.1 ▸ hP) 5 1 rfl rfl (oi_in h1 (by omega) (by decide)) hd ?_
  rw [oi_clamp h1 (by omega)]
  have e : ar S 5 i.toNat = Int32.ofInt (S 5 i) := by unfold ar; rw [Int.toNat_of_nonneg h1]
  rw [e]
  exact k (hb.2.2.2.2.2.2.2.2.2.1 i).1 (hb.2.2.2.2.2.2.2.2.2.1 i).2 ho H locs ls hP hD hS hl
theorem jp_st_blockFrom (hC : CX X R_P cc nL ret lev) (hG : GP X) {i v : Int} (hd : decode cc pc = .ok (.bastore, 1)) (k : J X nL ret post (s2 S 5 i v) (pc + 1) L st) (h0 : 0 ≤ i := by omega) (h3 : i < 4 := by omega) (h1 : (-128) ≤ v := by omega) (h2 : v ≤ 127 := by omega) : J X nL ret post S pc L (vI v :: vI i :: .ref (gA X 5) :: st) := by
  intro ho H locs ls hP hD hS hl
  have hb : okP S := hG.2 ▸ ho
  refine va_bast hC.1 hC.2.1 hC.2.2.2.2.2.2.2.1 (show va_P (xZ X).1 classes (PW (xZ X) S) H from hG.1 ▸ hP) (show va_D (xA X) (PW (xZ X) S) from hG.1 ▸ hD) hS 5 1 rfl rfl (oi_in h0 (by omega) (by decide)) hd (fun H1 locs1 hP1 hD1 hS1 => ?_)
  rw [oi_clamp h0 (by omega)] at hP1 hD1
  rw [oi_nb h1 h2] at hP1 hD1
  rw [ar_s2 S 5 h0, ← PW_blockFrom] at hP1 hD1
  exact k (hG.2 ▸ okP_blockFrom hb h1 h2) H1 locs1 ls (hG.1 ▸ hP1) (hG.1 ▸ hD1) hS1 hl
theorem jp_gf_blockUntil (hC : CX X R_P cc nL ret lev) (hG : GP X) (hd : decode cc pc = .ok (.getfield 26, 3)) (k : J X nL ret post S (pc + 3) L (.ref (gA X 6) :: st)) : J X nL ret post S pc L (.ref (gA X 0) :: st) := by
  intro ho H locs ls hP hD hS hl
  exact va_get (D := (xZ X).1) (ci := 0) (C := R_P) (T := F_P) (N := 16) hC.1 hC.2.1 hC.2.2.2.2.2.2.1 ig_P hC.2.2.2.2.2.1 hC.2.2.2.2.2.2.2.1 (hG.1 ▸ hP) 0 rfl rfl 7 (by decide) (hC.2.2.2.2.2.2.1 (.fieldLink R_P 26 "EqualJobPlanner" "blockUntil" "[B") gf_P_26) (fun _ h9 => h9) rfl hd (k ho H locs ls hP hD hS hl)
theorem jp_ld_blockUntil (hC : CX X R_P cc nL ret lev) (hG : GP X) {i : Int} (hd : decode cc pc = .ok (.baload, 1)) (k : (-128) ≤ S 6 i → S 6 i ≤ 127 → J X nL ret post S (pc + 1) L (vI (S 6 i) :: st)) (h1 : 0 ≤ i := by omega) (h2 : i < 4 := by omega) : J X nL ret post S pc L (vI i :: .ref (gA X 6) :: st) := by
  intro ho H locs ls hP hD hS hl
  have hb : okP S := hG.2 ▸ ho
  refine va_bald hC.1 hC.2.1 hC.2.2.2.2.2.2.2.1 (show va_P (xZ X).1 classes (PW (xZ X) S) H from hG.1 ▸ hP) 6 1 rfl rfl (oi_in h1 (by omega) (by decide)) hd ?_
  rw [oi_clamp h1 (by omega)]
  have e : ar S 6 i.toNat = Int32.ofInt (S 6 i) := by unfold ar; rw [Int.toNat_of_nonneg h1]
  rw [e]
  exact k (hb.2.2.2.2.2.2.2.2.2.2.1 i).1 (hb.2.2.2.2.2.2.2.2.2.2.1 i).2 ho H locs ls hP hD hS hl
theorem jp_st_blockUntil (hC : CX X R_P cc nL ret lev) (hG : GP X) {i v : Int} (hd : decode cc pc = .ok (.bastore, 1)) (k : J X nL ret post (s2 S 6 i v) (pc + 1) L st) (h0 : 0 ≤ i := by omega) (h3 : i < 4 := by omega) (h1 : (-128) ≤ v := by omega) (h2 : v ≤ 127 := by omega) : J X nL ret post S pc L (vI v :: vI i :: .ref (gA X 6) :: st) := by
  intro ho H locs ls hP hD hS hl
  have hb : okP S := hG.2 ▸ ho
  refine va_bast hC.1 hC.2.1 hC.2.2.2.2.2.2.2.1 (show va_P (xZ X).1 classes (PW (xZ X) S) H from hG.1 ▸ hP) (show va_D (xA X) (PW (xZ X) S) from hG.1 ▸ hD) hS 6 1 rfl rfl (oi_in h0 (by omega) (by decide)) hd (fun H1 locs1 hP1 hD1 hS1 => ?_)
  rw [oi_clamp h0 (by omega)] at hP1 hD1
  rw [oi_nb h1 h2] at hP1 hD1
  rw [ar_s2 S 6 h0, ← PW_blockUntil] at hP1 hD1
  exact k (hG.2 ▸ okP_blockUntil hb h1 h2) H1 locs1 ls (hG.1 ▸ hP1) (hG.1 ▸ hD1) hS1 hl
theorem jp_gf_asked (hC : CX X R_P cc nL ret lev) (hG : GP X) (hd : decode cc pc = .ok (.getfield 101, 3)) (k : 0 ≤ S 0 2 → S 0 2 ≤ 8 → J X nL ret post S (pc + 3) L (vI (S 0 2) :: st)) : J X nL ret post S pc L (.ref (gA X 0) :: st) := by
  intro ho H locs ls hP hD hS hl
  have hb : okP S := hG.2 ▸ ho
  exact va_get (D := (xZ X).1) (ci := 0) (C := R_P) (T := F_P) (N := 16) hC.1 hC.2.1 hC.2.2.2.2.2.2.1 ig_P hC.2.2.2.2.2.1 hC.2.2.2.2.2.2.2.1 (hG.1 ▸ hP) 0 rfl rfl 8 (by decide) (hC.2.2.2.2.2.2.1 (.fieldLink R_P 101 "EqualJobPlanner" "asked" "I") gf_P_101) (fun _ h9 => h9) rfl hd (k hb.2.2.1.1 hb.2.2.1.2 ho H locs ls hP hD hS hl)
theorem jp_pf_asked (hC : CX X R_P cc nL ret lev) (hG : GP X) {v : Int} (hd : decode cc pc = .ok (.putfield 101, 3)) (k : J X nL ret post (s2 S 0 2 v) (pc + 3) L st) (h1 : 0 ≤ v := by omega) (h2 : v ≤ 8 := by omega) : J X nL ret post S pc L (vI v :: .ref (gA X 0) :: st) := by
  intro ho H locs ls hP hD hS hl
  have hb : okP S := hG.2 ▸ ho
  refine va_put (D := (xZ X).1) (ci := 0) (v := vI v) (ty := .int) (C := R_P) (T := F_P) (N := 16) hC.1 hC.2.1 hC.2.2.2.2.2.2.1 ig_P t_P t_P_ok n_P hC.2.2.2.2.2.1 hC.2.2.2.2.2.2.2.1 (show va_P (xZ X).1 classes (PW (xZ X) S) H from hG.1 ▸ hP) (show va_D (xA X) (PW (xZ X) S) from hG.1 ▸ hD) hS 0 rfl rfl 8 (by decide) (hC.2.2.2.2.2.2.1 (.fieldLink R_P 101 "EqualJobPlanner" "asked" "I") gf_P_101) (fun _ h9 => h9) rfl (by decide +kernel) rfl rfl (Nat.le_of_ble_eq_true rfl) hd (fun H1 locs1 hP1 hD1 hS1 => ?_)
  rw [← PW_asked] at hP1 hD1
  exact k (hG.2 ▸ okP_asked hb h1 h2) H1 locs1 ls (hG.1 ▸ hP1) (hG.1 ▸ hD1) hS1 hl
theorem jp_gf_askFrom (hC : CX X R_P cc nL ret lev) (hG : GP X) (hd : decode cc pc = .ok (.getfield 29, 3)) (k : J X nL ret post S (pc + 3) L (.ref (gA X 7) :: st)) : J X nL ret post S pc L (.ref (gA X 0) :: st) := by
  intro ho H locs ls hP hD hS hl
  exact va_get (D := (xZ X).1) (ci := 0) (C := R_P) (T := F_P) (N := 16) hC.1 hC.2.1 hC.2.2.2.2.2.2.1 ig_P hC.2.2.2.2.2.1 hC.2.2.2.2.2.2.2.1 (hG.1 ▸ hP) 0 rfl rfl 9 (by decide) (hC.2.2.2.2.2.2.1 (.fieldLink R_P 29 "EqualJobPlanner" "askFrom" "[B") gf_P_29) (fun _ h9 => h9) rfl hd (k ho H locs ls hP hD hS hl)
theorem jp_ld_askFrom (hC : CX X R_P cc nL ret lev) (hG : GP X) {i : Int} (hd : decode cc pc = .ok (.baload, 1)) (k : (-128) ≤ S 7 i → S 7 i ≤ 127 → J X nL ret post S (pc + 1) L (vI (S 7 i) :: st)) (h1 : 0 ≤ i := by omega) (h2 : i < 8 := by omega) : J X nL ret post S pc L (vI i :: .ref (gA X 7) :: st) := by
  intro ho H locs ls hP hD hS hl
  have hb : okP S := hG.2 ▸ ho
  refine va_bald hC.1 hC.2.1 hC.2.2.2.2.2.2.2.1 (show va_P (xZ X).1 classes (PW (xZ X) S) H from hG.1 ▸ hP) 7 1 rfl rfl (oi_in h1 (by omega) (by decide)) hd ?_
  rw [oi_clamp h1 (by omega)]
  have e : ar S 7 i.toNat = Int32.ofInt (S 7 i) := by unfold ar; rw [Int.toNat_of_nonneg h1]
  rw [e]
  exact k (hb.2.2.2.2.2.2.2.2.2.2.2.1 i).1 (hb.2.2.2.2.2.2.2.2.2.2.2.1 i).2 ho H locs ls hP hD hS hl
theorem jp_st_askFrom (hC : CX X R_P cc nL ret lev) (hG : GP X) {i v : Int} (hd : decode cc pc = .ok (.bastore, 1)) (k : J X nL ret post (s2 S 7 i v) (pc + 1) L st) (h0 : 0 ≤ i := by omega) (h3 : i < 8 := by omega) (h1 : (-128) ≤ v := by omega) (h2 : v ≤ 127 := by omega) : J X nL ret post S pc L (vI v :: vI i :: .ref (gA X 7) :: st) := by
  intro ho H locs ls hP hD hS hl
  have hb : okP S := hG.2 ▸ ho
  refine va_bast hC.1 hC.2.1 hC.2.2.2.2.2.2.2.1 (show va_P (xZ X).1 classes (PW (xZ X) S) H from hG.1 ▸ hP) (show va_D (xA X) (PW (xZ X) S) from hG.1 ▸ hD) hS 7 1 rfl rfl (oi_in h0 (by omega) (by decide)) hd (fun H1 locs1 hP1 hD1 hS1 => ?_)
  rw [oi_clamp h0 (by omega)] at hP1 hD1
  rw [oi_nb h1 h2] at hP1 hD1
  rw [ar_s2 S 7 h0, ← PW_askFrom] at hP1 hD1
  exact k (hG.2 ▸ okP_askFrom hb h1 h2) H1 locs1 ls (hG.1 ▸ hP1) (hG.1 ▸ hD1) hS1 hl
theorem jp_gf_askUntil (hC : CX X R_P cc nL ret lev) (hG : GP X) (hd : decode cc pc = .ok (.getfield 32, 3)) (k : J X nL ret post S (pc + 3) L (.ref (gA X 8) :: st)) : J X nL ret post S pc L (.ref (gA X 0) :: st) := by
  intro ho H locs ls hP hD hS hl
  exact va_get (D := (xZ X).1) (ci := 0) (C := R_P) (T := F_P) (N := 16) hC.1 hC.2.1 hC.2.2.2.2.2.2.1 ig_P hC.2.2.2.2.2.1 hC.2.2.2.2.2.2.2.1 (hG.1 ▸ hP) 0 rfl rfl 10 (by decide) (hC.2.2.2.2.2.2.1 (.fieldLink R_P 32 "EqualJobPlanner" "askUntil" "[B") gf_P_32) (fun _ h9 => h9) rfl hd (k ho H locs ls hP hD hS hl)
theorem jp_ld_askUntil (hC : CX X R_P cc nL ret lev) (hG : GP X) {i : Int} (hd : decode cc pc = .ok (.baload, 1)) (k : (-128) ≤ S 8 i → S 8 i ≤ 127 → J X nL ret post S (pc + 1) L (vI (S 8 i) :: st)) (h1 : 0 ≤ i := by omega) (h2 : i < 8 := by omega) : J X nL ret post S pc L (vI i :: .ref (gA X 8) :: st) := by
  intro ho H locs ls hP hD hS hl
  have hb : okP S := hG.2 ▸ ho
  refine va_bald hC.1 hC.2.1 hC.2.2.2.2.2.2.2.1 (show va_P (xZ X).1 classes (PW (xZ X) S) H from hG.1 ▸ hP) 8 1 rfl rfl (oi_in h1 (by omega) (by decide)) hd ?_
  rw [oi_clamp h1 (by omega)]
  have e : ar S 8 i.toNat = Int32.ofInt (S 8 i) := by unfold ar; rw [Int.toNat_of_nonneg h1]
  rw [e]
  exact k (hb.2.2.2.2.2.2.2.2.2.2.2.2.1 i).1 (hb.2.2.2.2.2.2.2.2.2.2.2.2.1 i).2 ho H locs ls hP hD hS hl
theorem jp_st_askUntil (hC : CX X R_P cc nL ret lev) (hG : GP X) {i v : Int} (hd : decode cc pc = .ok (.bastore, 1)) (k : J X nL ret post (s2 S 8 i v) (pc + 1) L st) (h0 : 0 ≤ i := by omega) (h3 : i < 8 := by omega) (h1 : (-128) ≤ v := by omega) (h2 : v ≤ 127 := by omega) : J X nL ret post S pc L (vI v :: vI i :: .ref (gA X 8) :: st) := by
  intro ho H locs ls hP hD hS hl
  have hb : okP S := hG.2 ▸ ho
  refine va_bast hC.1 hC.2.1 hC.2.2.2.2.2.2.2.1 (show va_P (xZ X).1 classes (PW (xZ X) S) H from hG.1 ▸ hP) (show va_D (xA X) (PW (xZ X) S) from hG.1 ▸ hD) hS 8 1 rfl rfl (oi_in h0 (by omega) (by decide)) hd (fun H1 locs1 hP1 hD1 hS1 => ?_)
  rw [oi_clamp h0 (by omega)] at hP1 hD1
  rw [oi_nb h1 h2] at hP1 hD1
  rw [ar_s2 S 8 h0, ← PW_askUntil] at hP1 hD1
  exact k (hG.2 ▸ okP_askUntil hb h1 h2) H1 locs1 ls (hG.1 ▸ hP1) (hG.1 ▸ hD1) hS1 hl
theorem jp_gf_placed (hC : CX X R_P cc nL ret lev) (hG : GP X) (hd : decode cc pc = .ok (.getfield 35, 3)) (k : J X nL ret post S (pc + 3) L (.ref (gA X 9) :: st)) : J X nL ret post S pc L (.ref (gA X 0) :: st) := by
  intro ho H locs ls hP hD hS hl
  exact va_get (D := (xZ X).1) (ci := 0) (C := R_P) (T := F_P) (N := 16) hC.1 hC.2.1 hC.2.2.2.2.2.2.1 ig_P hC.2.2.2.2.2.1 hC.2.2.2.2.2.2.2.1 (hG.1 ▸ hP) 0 rfl rfl 11 (by decide) (hC.2.2.2.2.2.2.1 (.fieldLink R_P 35 "EqualJobPlanner" "placed" "[Z") gf_P_35) (fun _ h9 => h9) rfl hd (k ho H locs ls hP hD hS hl)
theorem jp_ld_placed (hC : CX X R_P cc nL ret lev) (hG : GP X) {i : Int} (hd : decode cc pc = .ok (.baload, 1)) (k : 0 ≤ S 9 i → S 9 i ≤ 1 → J X nL ret post S (pc + 1) L (vI (S 9 i) :: st)) (h1 : 0 ≤ i := by omega) (h2 : i < 8 := by omega) : J X nL ret post S pc L (vI i :: .ref (gA X 9) :: st) := by
  intro ho H locs ls hP hD hS hl
  have hb : okP S := hG.2 ▸ ho
  refine va_zald hC.1 hC.2.1 hC.2.2.2.2.2.2.2.1 (show va_P (xZ X).1 classes (PW (xZ X) S) H from hG.1 ▸ hP) 9 0 rfl rfl (oi_in h1 (by omega) (by decide)) hd ?_
  rw [oi_clamp h1 (by omega)]
  have e : ar S 9 i.toNat = Int32.ofInt (S 9 i) := by unfold ar; rw [Int.toNat_of_nonneg h1]
  rw [e]
  exact k (hb.2.2.2.2.2.2.2.2.2.2.2.2.2.1 i).1 (hb.2.2.2.2.2.2.2.2.2.2.2.2.2.1 i).2 ho H locs ls hP hD hS hl
theorem jp_st_placed (hC : CX X R_P cc nL ret lev) (hG : GP X) {i v : Int} (hd : decode cc pc = .ok (.bastore, 1)) (k : J X nL ret post (s2 S 9 i v) (pc + 1) L st) (h0 : 0 ≤ i := by omega) (h3 : i < 8 := by omega) (h1 : 0 ≤ v := by omega) (h2 : v ≤ 1 := by omega) : J X nL ret post S pc L (vI v :: vI i :: .ref (gA X 9) :: st) := by
  intro ho H locs ls hP hD hS hl
  have hb : okP S := hG.2 ▸ ho
  refine va_zast hC.1 hC.2.1 hC.2.2.2.2.2.2.2.1 (show va_P (xZ X).1 classes (PW (xZ X) S) H from hG.1 ▸ hP) (show va_D (xA X) (PW (xZ X) S) from hG.1 ▸ hD) hS 9 0 rfl rfl (oi_in h0 (by omega) (by decide)) hd (fun H1 locs1 hP1 hD1 hS1 => ?_)
  rw [oi_clamp h0 (by omega)] at hP1 hD1
  rw [oi_nz h1 h2] at hP1 hD1
  rw [ar_s2 S 9 h0, ← PW_placed] at hP1 hD1
  exact k (hG.2 ▸ okP_placed hb h1 h2) H1 locs1 ls (hG.1 ▸ hP1) (hG.1 ▸ hD1) hS1 hl
theorem jp_gf_shut (hC : CX X R_P cc nL ret lev) (hG : GP X) (hd : decode cc pc = .ok (.getfield 38, 3)) (k : J X nL ret post S (pc + 3) L (.ref (gA X 10) :: st)) : J X nL ret post S pc L (.ref (gA X 0) :: st) := by
  intro ho H locs ls hP hD hS hl
  exact va_get (D := (xZ X).1) (ci := 0) (C := R_P) (T := F_P) (N := 16) hC.1 hC.2.1 hC.2.2.2.2.2.2.1 ig_P hC.2.2.2.2.2.1 hC.2.2.2.2.2.2.2.1 (hG.1 ▸ hP) 0 rfl rfl 12 (by decide) (hC.2.2.2.2.2.2.1 (.fieldLink R_P 38 "EqualJobPlanner" "shut" "[Z") gf_P_38) (fun _ h9 => h9) rfl hd (k ho H locs ls hP hD hS hl)
theorem jp_ld_shut (hC : CX X R_P cc nL ret lev) (hG : GP X) {i : Int} (hd : decode cc pc = .ok (.baload, 1)) (k : 0 ≤ S 10 i → S 10 i ≤ 1 → J X nL ret post S (pc + 1) L (vI (S 10 i) :: st)) (h1 : 0 ≤ i := by omega) (h2 : i < 48 := by omega) : J X nL ret post S pc L (vI i :: .ref (gA X 10) :: st) := by
  intro ho H locs ls hP hD hS hl
  have hb : okP S := hG.2 ▸ ho
  refine va_zald hC.1 hC.2.1 hC.2.2.2.2.2.2.2.1 (show va_P (xZ X).1 classes (PW (xZ X) S) H from hG.1 ▸ hP) 10 0 rfl rfl (oi_in h1 (by omega) (by decide)) hd ?_
  rw [oi_clamp h1 (by omega)]
  have e : ar S 10 i.toNat = Int32.ofInt (S 10 i) := by unfold ar; rw [Int.toNat_of_nonneg h1]
  rw [e]
  exact k (hb.2.2.2.2.2.2.2.2.2.2.2.2.2.2.1 i).1 (hb.2.2.2.2.2.2.2.2.2.2.2.2.2.2.1 i).2 ho H locs ls hP hD hS hl
theorem jp_st_shut (hC : CX X R_P cc nL ret lev) (hG : GP X) {i v : Int} (hd : decode cc pc = .ok (.bastore, 1)) (k : J X nL ret post (s2 S 10 i v) (pc + 1) L st) (h0 : 0 ≤ i := by omega) (h3 : i < 48 := by omega) (h1 : 0 ≤ v := by omega) (h2 : v ≤ 1 := by omega) : J X nL ret post S pc L (vI v :: vI i :: .ref (gA X 10) :: st) := by
  intro ho H locs ls hP hD hS hl
  have hb : okP S := hG.2 ▸ ho
  refine va_zast hC.1 hC.2.1 hC.2.2.2.2.2.2.2.1 (show va_P (xZ X).1 classes (PW (xZ X) S) H from hG.1 ▸ hP) (show va_D (xA X) (PW (xZ X) S) from hG.1 ▸ hD) hS 10 0 rfl rfl (oi_in h0 (by omega) (by decide)) hd (fun H1 locs1 hP1 hD1 hS1 => ?_)
  rw [oi_clamp h0 (by omega)] at hP1 hD1
  rw [oi_nz h1 h2] at hP1 hD1
  rw [ar_s2 S 10 h0, ← PW_shut] at hP1 hD1
  exact k (hG.2 ▸ okP_shut hb h1 h2) H1 locs1 ls (hG.1 ▸ hP1) (hG.1 ▸ hD1) hS1 hl
theorem jp_gf_lastEnd (hC : CX X R_P cc nL ret lev) (hG : GP X) (hd : decode cc pc = .ok (.getfield 86, 3)) (k : 0 ≤ S 0 3 → S 0 3 ≤ 127 → J X nL ret post S (pc + 3) L (vI (S 0 3) :: st)) : J X nL ret post S pc L (.ref (gA X 0) :: st) := by
  intro ho H locs ls hP hD hS hl
  have hb : okP S := hG.2 ▸ ho
  exact va_get (D := (xZ X).1) (ci := 0) (C := R_P) (T := F_P) (N := 16) hC.1 hC.2.1 hC.2.2.2.2.2.2.1 ig_P hC.2.2.2.2.2.1 hC.2.2.2.2.2.2.2.1 (hG.1 ▸ hP) 0 rfl rfl 13 (by decide) (hC.2.2.2.2.2.2.1 (.fieldLink R_P 86 "EqualJobPlanner" "lastEnd" "I") gf_P_86) (fun _ h9 => h9) rfl hd (k hb.2.2.2.1.1 hb.2.2.2.1.2 ho H locs ls hP hD hS hl)
theorem jp_pf_lastEnd (hC : CX X R_P cc nL ret lev) (hG : GP X) {v : Int} (hd : decode cc pc = .ok (.putfield 86, 3)) (k : J X nL ret post (s2 S 0 3 v) (pc + 3) L st) (h1 : 0 ≤ v := by omega) (h2 : v ≤ 127 := by omega) : J X nL ret post S pc L (vI v :: .ref (gA X 0) :: st) := by
  intro ho H locs ls hP hD hS hl
  have hb : okP S := hG.2 ▸ ho
  refine va_put (D := (xZ X).1) (ci := 0) (v := vI v) (ty := .int) (C := R_P) (T := F_P) (N := 16) hC.1 hC.2.1 hC.2.2.2.2.2.2.1 ig_P t_P t_P_ok n_P hC.2.2.2.2.2.1 hC.2.2.2.2.2.2.2.1 (show va_P (xZ X).1 classes (PW (xZ X) S) H from hG.1 ▸ hP) (show va_D (xA X) (PW (xZ X) S) from hG.1 ▸ hD) hS 0 rfl rfl 13 (by decide) (hC.2.2.2.2.2.2.1 (.fieldLink R_P 86 "EqualJobPlanner" "lastEnd" "I") gf_P_86) (fun _ h9 => h9) rfl (by decide +kernel) rfl rfl (Nat.le_of_ble_eq_true rfl) hd (fun H1 locs1 hP1 hD1 hS1 => ?_)
  rw [← PW_lastEnd] at hP1 hD1
  exact k (hG.2 ▸ okP_lastEnd hb h1 h2) H1 locs1 ls (hG.1 ▸ hP1) (hG.1 ▸ hD1) hS1 hl
theorem jp_gf_planKnown (hC : CX X R_P cc nL ret lev) (hG : GP X) (hd : decode cc pc = .ok (.getfield 55, 3)) (k : 0 ≤ S 0 4 → S 0 4 ≤ 1 → J X nL ret post S (pc + 3) L (vI (S 0 4) :: st)) : J X nL ret post S pc L (.ref (gA X 0) :: st) := by
  intro ho H locs ls hP hD hS hl
  have hb : okP S := hG.2 ▸ ho
  exact va_get (D := (xZ X).1) (ci := 0) (C := R_P) (T := F_P) (N := 16) hC.1 hC.2.1 hC.2.2.2.2.2.2.1 ig_P hC.2.2.2.2.2.1 hC.2.2.2.2.2.2.2.1 (hG.1 ▸ hP) 0 rfl rfl 14 (by decide) (hC.2.2.2.2.2.2.1 (.fieldLink R_P 55 "EqualJobPlanner" "planKnown" "Z") gf_P_55) (fun _ h9 => h9) rfl hd (k hb.2.2.2.2.1.1 hb.2.2.2.2.1.2 ho H locs ls hP hD hS hl)
theorem jp_pf_planKnown (hC : CX X R_P cc nL ret lev) (hG : GP X) {v : Int} (hd : decode cc pc = .ok (.putfield 55, 3)) (k : J X nL ret post (s2 S 0 4 v) (pc + 3) L st) (h1 : 0 ≤ v := by omega) (h2 : v ≤ 1 := by omega) : J X nL ret post S pc L (vI v :: .ref (gA X 0) :: st) := by
  intro ho H locs ls hP hD hS hl
  have hb : okP S := hG.2 ▸ ho
  refine va_put (D := (xZ X).1) (ci := 0) (v := vI v) (ty := .boolean) (C := R_P) (T := F_P) (N := 16) hC.1 hC.2.1 hC.2.2.2.2.2.2.1 ig_P t_P t_P_ok n_P hC.2.2.2.2.2.1 hC.2.2.2.2.2.2.2.1 (show va_P (xZ X).1 classes (PW (xZ X) S) H from hG.1 ▸ hP) (show va_D (xA X) (PW (xZ X) S) from hG.1 ▸ hD) hS 0 rfl rfl 14 (by decide) (hC.2.2.2.2.2.2.1 (.fieldLink R_P 55 "EqualJobPlanner" "planKnown" "Z") gf_P_55) (fun _ h9 => h9) rfl (by decide +kernel) (oi_z h1 h2) (oi_fz h1 h2) (Nat.le_of_ble_eq_true rfl) hd (fun H1 locs1 hP1 hD1 hS1 => ?_)
  rw [← PW_planKnown] at hP1 hD1
  exact k (hG.2 ▸ okP_planKnown hb h1 h2) H1 locs1 ls (hG.1 ▸ hP1) (hG.1 ▸ hD1) hS1 hl
theorem jp_gf_plan (hC : CX X R_P cc nL ret lev) (hG : GP X) (hd : decode cc pc = .ok (.getfield 41, 3)) (k : J X nL ret post S (pc + 3) L (.ref (gA X 11) :: st)) : J X nL ret post S pc L (.ref (gA X 0) :: st) := by
  intro ho H locs ls hP hD hS hl
  exact va_get (D := (xZ X).1) (ci := 0) (C := R_P) (T := F_P) (N := 16) hC.1 hC.2.1 hC.2.2.2.2.2.2.1 ig_P hC.2.2.2.2.2.1 hC.2.2.2.2.2.2.2.1 (hG.1 ▸ hP) 0 rfl rfl 15 (by decide) (hC.2.2.2.2.2.2.1 (.fieldLink R_P 41 "EqualJobPlanner" "plan" "[B") gf_P_41) (fun _ h9 => h9) rfl hd (k ho H locs ls hP hD hS hl)
theorem jp_ld_plan (hC : CX X R_P cc nL ret lev) (hG : GP X) {i : Int} (hd : decode cc pc = .ok (.baload, 1)) (k : (-128) ≤ S 11 i → S 11 i ≤ 127 → J X nL ret post S (pc + 1) L (vI (S 11 i) :: st)) (h1 : 0 ≤ i := by omega) (h2 : i < 8 := by omega) : J X nL ret post S pc L (vI i :: .ref (gA X 11) :: st) := by
  intro ho H locs ls hP hD hS hl
  have hb : okP S := hG.2 ▸ ho
  refine va_bald hC.1 hC.2.1 hC.2.2.2.2.2.2.2.1 (show va_P (xZ X).1 classes (PW (xZ X) S) H from hG.1 ▸ hP) 11 1 rfl rfl (oi_in h1 (by omega) (by decide)) hd ?_
  rw [oi_clamp h1 (by omega)]
  have e : ar S 11 i.toNat = Int32.ofInt (S 11 i) := by unfold ar; rw [Int.toNat_of_nonneg h1]
  rw [e]
  exact k (hb.2.2.2.2.2.2.2.2.2.2.2.2.2.2.2 i).1 (hb.2.2.2.2.2.2.2.2.2.2.2.2.2.2.2 i).2 ho H locs ls hP hD hS hl
theorem jp_st_plan (hC : CX X R_P cc nL ret lev) (hG : GP X) {i v : Int} (hd : decode cc pc = .ok (.bastore, 1)) (k : J X nL ret post (s2 S 11 i v) (pc + 1) L st) (h0 : 0 ≤ i := by omega) (h3 : i < 8 := by omega) (h1 : (-128) ≤ v := by omega) (h2 : v ≤ 127 := by omega) : J X nL ret post S pc L (vI v :: vI i :: .ref (gA X 11) :: st) := by
  intro ho H locs ls hP hD hS hl
  have hb : okP S := hG.2 ▸ ho
  refine va_bast hC.1 hC.2.1 hC.2.2.2.2.2.2.2.1 (show va_P (xZ X).1 classes (PW (xZ X) S) H from hG.1 ▸ hP) (show va_D (xA X) (PW (xZ X) S) from hG.1 ▸ hD) hS 11 1 rfl rfl (oi_in h0 (by omega) (by decide)) hd (fun H1 locs1 hP1 hD1 hS1 => ?_)
  rw [oi_clamp h0 (by omega)] at hP1 hD1
  rw [oi_nb h1 h2] at hP1 hD1
  rw [ar_s2 S 11 h0, ← PW_plan] at hP1 hD1
  exact k (hG.2 ▸ okP_plan hb h1 h2) H1 locs1 ls (hG.1 ▸ hP1) (hG.1 ▸ hD1) hS1 hl
theorem jp_recv (hC : CX X R_P cc nL ret lev) (hG : GP X) (H : Heap) (hP : va_P (xZ X).1 classes (xW X (xZ X) S) H) : ∃ cellB : Cell, H[gA X 0]? = some cellB ∧ cellB.vm.isStatics = false ∧ (xS X).vm.findClass R_P = some cellB.cls :=
  va_recv hC.2.2.2.2.2.2.2.1 (show va_P (xZ X).1 classes (PW (xZ X) S) H from hG.1 ▸ hP) (ci := 0) (q0 := 0) rfl rfl
variable {y : MethodName} {b : ByteArray} {n lv idx : Nat} {rt : FieldType} {post' : Int → St → Prop}
theorem jp_calli0 (hC : CX X R_P cc nL ret lev) (hG : GP X) (hw : CW lev R_P idx y b n (some rt) lv 0) (hy : y.cls = R_P) (hd : decode cc pc = .ok (.invokevirtual idx, 3)) (hM : Ct PW okP y b n (some rt) lv [] S post')
    (k : ∀ (z : Int) (S' : St), post' z S' → okP S' → J X nL ret post S' (pc + 3) L (vI z :: st)) (hst : (st.map fun v => v.category).sum ≤ 8 := by exact Nat.le_of_ble_eq_true rfl) : J X nL ret post S pc L (.ref (gA X 0) :: st) :=
  j_calli_g (xs := []) hC hw (by rw [hG.1, hG.2]; exact hM) (fun H hP => by rw [hy]; exact jp_recv hC hG H hP) hd hst (fun z S' hp ho => k z S' hp (hG.2 ▸ ho))
theorem jp_calli1 {x1 : Int} (hC : CX X R_P cc nL ret lev) (hG : GP X) (hw : CW lev R_P idx y b n (some rt) lv 1) (hy : y.cls = R_P) (hd : decode cc pc = .ok (.invokevirtual idx, 3)) (hM : Ct PW okP y b n (some rt) lv [x1] S post')
    (k : ∀ (z : Int) (S' : St), post' z S' → okP S' → J X nL ret post S' (pc + 3) L (vI z :: st)) (hst : (st.map fun v => v.category).sum ≤ 8 := by exact Nat.le_of_ble_eq_true rfl) : J X nL ret post S pc L (vI x1 :: .ref (gA X 0) :: st) :=
  j_calli_g (xs := [x1]) hC hw (by rw [hG.1, hG.2]; exact hM) (fun H hP => by rw [hy]; exact jp_recv hC hG H hP) hd hst (fun z S' hp ho => k z S' hp (hG.2 ▸ ho))
theorem jp_calli2 {x1 x2 : Int} (hC : CX X R_P cc nL ret lev) (hG : GP X) (hw : CW lev R_P idx y b n (some rt) lv 2) (hy : y.cls = R_P) (hd : decode cc pc = .ok (.invokevirtual idx, 3)) (hM : Ct PW okP y b n (some rt) lv [x1, x2] S post')
    (k : ∀ (z : Int) (S' : St), post' z S' → okP S' → J X nL ret post S' (pc + 3) L (vI z :: st)) (hst : (st.map fun v => v.category).sum ≤ 8 := by exact Nat.le_of_ble_eq_true rfl) : J X nL ret post S pc L (vI x2 :: vI x1 :: .ref (gA X 0) :: st) :=
  j_calli_g (xs := [x1, x2]) hC hw (by rw [hG.1, hG.2]; exact hM) (fun H hP => by rw [hy]; exact jp_recv hC hG H hP) hd hst (fun z S' hp ho => k z S' hp (hG.2 ▸ ho))
theorem jp_calli3 {x1 x2 x3 : Int} (hC : CX X R_P cc nL ret lev) (hG : GP X) (hw : CW lev R_P idx y b n (some rt) lv 3) (hy : y.cls = R_P) (hd : decode cc pc = .ok (.invokevirtual idx, 3)) (hM : Ct PW okP y b n (some rt) lv [x1, x2, x3] S post')
    (k : ∀ (z : Int) (S' : St), post' z S' → okP S' → J X nL ret post S' (pc + 3) L (vI z :: st)) (hst : (st.map fun v => v.category).sum ≤ 8 := by exact Nat.le_of_ble_eq_true rfl) : J X nL ret post S pc L (vI x3 :: vI x2 :: vI x1 :: .ref (gA X 0) :: st) :=
  j_calli_g (xs := [x1, x2, x3]) hC hw (by rw [hG.1, hG.2]; exact hM) (fun H hP => by rw [hy]; exact jp_recv hC hG H hP) hd hst (fun z S' hp ho => k z S' hp (hG.2 ▸ ho))
theorem jp_callv0 (hC : CX X R_P cc nL ret lev) (hG : GP X) (hw : CW lev R_P idx y b n none lv 0) (hy : y.cls = R_P) (hd : decode cc pc = .ok (.invokevirtual idx, 3)) (hM : Ct PW okP y b n none lv [] S post')
    (k : ∀ (S' : St), post' 0 S' → okP S' → J X nL ret post S' (pc + 3) L st) (hst : (st.map fun v => v.category).sum ≤ 8 := by exact Nat.le_of_ble_eq_true rfl) : J X nL ret post S pc L (.ref (gA X 0) :: st) :=
  j_callv_g (xs := []) hC hw (by rw [hG.1, hG.2]; exact hM) (fun H hP => by rw [hy]; exact jp_recv hC hG H hP) hd hst (fun S' hp ho => k S' hp (hG.2 ▸ ho))
theorem jp_callv1 {x1 : Int} (hC : CX X R_P cc nL ret lev) (hG : GP X) (hw : CW lev R_P idx y b n none lv 1) (hy : y.cls = R_P) (hd : decode cc pc = .ok (.invokevirtual idx, 3)) (hM : Ct PW okP y b n none lv [x1] S post')
    (k : ∀ (S' : St), post' 0 S' → okP S' → J X nL ret post S' (pc + 3) L st) (hst : (st.map fun v => v.category).sum ≤ 8 := by exact Nat.le_of_ble_eq_true rfl) : J X nL ret post S pc L (vI x1 :: .ref (gA X 0) :: st) :=
  j_callv_g (xs := [x1]) hC hw (by rw [hG.1, hG.2]; exact hM) (fun H hP => by rw [hy]; exact jp_recv hC hG H hP) hd hst (fun S' hp ho => k S' hp (hG.2 ▸ ho))
theorem jp_callv2 {x1 x2 : Int} (hC : CX X R_P cc nL ret lev) (hG : GP X) (hw : CW lev R_P idx y b n none lv 2) (hy : y.cls = R_P) (hd : decode cc pc = .ok (.invokevirtual idx, 3)) (hM : Ct PW okP y b n none lv [x1, x2] S post')
    (k : ∀ (S' : St), post' 0 S' → okP S' → J X nL ret post S' (pc + 3) L st) (hst : (st.map fun v => v.category).sum ≤ 8 := by exact Nat.le_of_ble_eq_true rfl) : J X nL ret post S pc L (vI x2 :: vI x1 :: .ref (gA X 0) :: st) :=
  j_callv_g (xs := [x1, x2]) hC hw (by rw [hG.1, hG.2]; exact hM) (fun H hP => by rw [hy]; exact jp_recv hC hG H hP) hd hst (fun S' hp ho => k S' hp (hG.2 ▸ ho))
theorem jp_callv3 {x1 x2 x3 : Int} (hC : CX X R_P cc nL ret lev) (hG : GP X) (hw : CW lev R_P idx y b n none lv 3) (hy : y.cls = R_P) (hd : decode cc pc = .ok (.invokevirtual idx, 3)) (hM : Ct PW okP y b n none lv [x1, x2, x3] S post')
    (k : ∀ (S' : St), post' 0 S' → okP S' → J X nL ret post S' (pc + 3) L st) (hst : (st.map fun v => v.category).sum ≤ 8 := by exact Nat.le_of_ble_eq_true rfl) : J X nL ret post S pc L (vI x3 :: vI x2 :: vI x1 :: .ref (gA X 0) :: st) :=
  j_callv_g (xs := [x1, x2, x3]) hC hw (by rw [hG.1, hG.2]; exact hM) (fun H hP => by rw [hy]; exact jp_recv hC hG H hP) hd hst (fun S' hp ho => k S' hp (hG.2 ▸ ho))
end JP
end
section
-- THE WORLD OF EqualJobPlannerModel, and a row for each of its fields and arrays: printed by gen/rows.py
-- S 0 _: 0 len, 1 cap, 2 all; arrays: 1 held, 2 rel, 3 dead, 4 shut, 5 from, 6 to, 7 lo, 8 hi, 9 can
def MW (Z : Gm) (S : St) : va_W := [(Z.2.1 0, .inr (1, [vI (S 0 0), vI (S 0 1), .ref (Z.2.1 1), .ref (Z.2.1 2), .ref (Z.2.1 3), .ref (Z.2.1 4), .ref (Z.2.1 5), .ref (Z.2.1 6), vI (S 0 2), .ref (Z.2.1 7), .ref (Z.2.1 8), .ref (Z.2.1 9)])), (Z.2.1 1, .inl (Z.2.2.1, 6, .inl (ar S 1))), (Z.2.1 2, .inl (Z.2.2.2.2, 6, .inl (ar S 2))), (Z.2.1 3, .inl (Z.2.2.2.2, 6, .inl (ar S 3))), (Z.2.1 4, .inl (Z.2.2.1, 4, .inl (ar S 4))), (Z.2.1 5, .inl (Z.2.2.2.2, 4, .inl (ar S 5))), (Z.2.1 6, .inl (Z.2.2.2.2, 4, .inl (ar S 6))), (Z.2.1 7, .inl (Z.2.2.2.2, 7, .inl (ar S 7))), (Z.2.1 8, .inl (Z.2.2.2.2, 7, .inl (ar S 8))), (Z.2.1 9, .inl (Z.2.2.1, 5248, .inl (ar S 9)))]
def bdM (a : Nat) (i : Int) : Int × Int := if a = 0 then (if i = 0 then (1, 6) else if i = 1 then (1, 6) else if i = 2 then (0, 127) else (0, 0)) else if a = 1 then (0, 1) else if a = 2 then ((-1000), 1000) else if a = 3 then ((-1000), 1000) else if a = 4 then (0, 1) else if a = 5 then ((-1000), 1000) else if a = 6 then ((-1000), 1000) else if a = 7 then ((-1000), 1000) else if a = 8 then ((-1000), 1000) else if a = 9 then (0, 1) else (0, 0)
/-- the bounds of all that the object holds -/
def okM (S : St) : Prop := (1 ≤ S 0 0 ∧ S 0 0 ≤ 6) ∧ (1 ≤ S 0 1 ∧ S 0 1 ≤ 6) ∧ (0 ≤ S 0 2 ∧ S 0 2 ≤ 127) ∧ (∀ i, 0 ≤ S 1 i ∧ S 1 i ≤ 1) ∧ (∀ i, (-1000) ≤ S 2 i ∧ S 2 i ≤ 1000) ∧ (∀ i, (-1000) ≤ S 3 i ∧ S 3 i ≤ 1000) ∧ (∀ i, 0 ≤ S 4 i ∧ S 4 i ≤ 1) ∧ (∀ i, (-1000) ≤ S 5 i ∧ S 5 i ≤ 1000) ∧ (∀ i, (-1000) ≤ S 6 i ∧ S 6 i ≤ 1000) ∧ (∀ i, (-1000) ≤ S 7 i ∧ S 7 i ≤ 1000) ∧ (∀ i, (-1000) ≤ S 8 i ∧ S 8 i ≤ 1000) ∧ (∀ i, 0 ≤ S 9 i ∧ S 9 i ≤ 1)
def GM (X : Cx) : Prop := xW X = MW ∧ xok X = okM
theorem MW_held (Z : Gm) (S : St) (i v : Int) : MW Z (s2 S 1 i v) = (MW Z S).set 1 (Z.2.1 1, .inl (Z.2.2.1, 6, .inl (ar (s2 S 1 i v) 1))) := by
  simp only [MW, List.set_cons_succ, List.set_cons_zero, ar_s2n S (show (2 : Nat) ≠ 1 by decide), ar_s2n S (show (3 : Nat) ≠ 1 by decide), ar_s2n S (show (4 : Nat) ≠ 1 by decide), ar_s2n S (show (5 : Nat) ≠ 1 by decide), ar_s2n S (show (6 : Nat) ≠ 1 by decide), ar_s2n S (show (7 : Nat) ≠ 1 by decide), ar_s2n S (show (8 : Nat) ≠ 1 by decide), ar_s2n S (show (9 : Nat) ≠ 1 by decide), s2_ne (S := S) (a := 1) (b := 0) (i := i) (j := 0) (v := v) (by rintro ⟨q, -⟩; cases q), s2_ne (S := S) (a := 1) (b := 0) (i := i) (j := 1) (v := v) (by rintro ⟨q, -⟩; cases q), s2_ne (S := S) (a := 1) (b := 0) (i := i) (j := 2) (v := v) (by rintro ⟨q, -⟩; cases q)]
theorem MW_rel (Z : Gm) (S : St) (i v : Int) : MW Z (s2 S 2 i v) = (MW Z S).set 2 (Z.2.1 2, .inl (Z.2.2.2.2, 6, .inl (ar (s2 S 2 i v) 2))) := by
  simp only [MW, List.set_cons_succ, List.set_cons_zero, ar_s2n S (show (1 : Nat) ≠ 2 by decide), ar_s2n S (show (3 : Nat) ≠ 2 by decide), ar_s2n S (show (4 : Nat) ≠ 2 by decide), ar_s2n S (show (5 : Nat) ≠ 2 by decide), ar_s2n S (show (6 : Nat) ≠ 2 by decide), ar_s2n S (show (7 : Nat) ≠ 2 by decide), ar_s2n S (show (8 : Nat) ≠ 2 by decide), ar_s2n S (show (9 : Nat) ≠ 2 by decide), s2_ne (S := S) (a := 2) (b := 0) (i := i) (j := 0) (v := v) (by rintro ⟨q, -⟩; cases q), s2_ne (S := S) (a := 2) (b := 0) (i := i) (j := 1) (v := v) (by rintro ⟨q, -⟩; cases q), s2_ne (S := S) (a := 2) (b := 0) (i := i) (j := 2) (v := v) (by rintro ⟨q, -⟩; cases q)]
theorem MW_dead (Z : Gm) (S : St) (i v : Int) : MW Z (s2 S 3 i v) = (MW Z S).set 3 (Z.2.1 3, .inl (Z.2.2.2.2, 6, .inl (ar (s2 S 3 i v) 3))) := by
  simp only [MW, List.set_cons_succ, List.set_cons_zero, ar_s2n S (show (1 : Nat) ≠ 3 by decide), ar_s2n S (show (2 : Nat) ≠ 3 by decide), ar_s2n S (show (4 : Nat) ≠ 3 by decide), ar_s2n S (show (5 : Nat) ≠ 3 by decide), ar_s2n S (show (6 : Nat) ≠ 3 by decide), ar_s2n S (show (7 : Nat) ≠ 3 by decide), ar_s2n S (show (8 : Nat) ≠ 3 by decide), ar_s2n S (show (9 : Nat) ≠ 3 by decide), s2_ne (S := S) (a := 3) (b := 0) (i := i) (j := 0) (v := v) (by rintro ⟨q, -⟩; cases q), s2_ne (S := S) (a := 3) (b := 0) (i := i) (j := 1) (v := v) (by rintro ⟨q, -⟩; cases q), s2_ne (S := S) (a := 3) (b := 0) (i := i) (j := 2) (v := v) (by rintro ⟨q, -⟩; cases q)]
theorem MW_shut (Z : Gm) (S : St) (i v : Int) : MW Z (s2 S 4 i v) = (MW Z S).set 4 (Z.2.1 4, .inl (Z.2.2.1, 4, .inl (ar (s2 S 4 i v) 4))) := by
  simp only [MW, List.set_cons_succ, List.set_cons_zero, ar_s2n S (show (1 : Nat) ≠ 4 by decide), ar_s2n S (show (2 : Nat) ≠ 4 by decide), ar_s2n S (show (3 : Nat) ≠ 4 by decide), ar_s2n S (show (5 : Nat) ≠ 4 by decide), ar_s2n S (show (6 : Nat) ≠ 4 by decide), ar_s2n S (show (7 : Nat) ≠ 4 by decide), ar_s2n S (show (8 : Nat) ≠ 4 by decide), ar_s2n S (show (9 : Nat) ≠ 4 by decide), s2_ne (S := S) (a := 4) (b := 0) (i := i) (j := 0) (v := v) (by rintro ⟨q, -⟩; cases q), s2_ne (S := S) (a := 4) (b := 0) (i := i) (j := 1) (v := v) (by rintro ⟨q, -⟩; cases q), s2_ne (S := S) (a := 4) (b := 0) (i := i) (j := 2) (v := v) (by rintro ⟨q, -⟩; cases q)]
theorem MW_from (Z : Gm) (S : St) (i v : Int) : MW Z (s2 S 5 i v) = (MW Z S).set 5 (Z.2.1 5, .inl (Z.2.2.2.2, 4, .inl (ar (s2 S 5 i v) 5))) := by
  simp only [MW, List.set_cons_succ, List.set_cons_zero, ar_s2n S (show (1 : Nat) ≠ 5 by decide), ar_s2n S (show (2 : Nat) ≠ 5 by decide), ar_s2n S (show (3 : Nat) ≠ 5 by decide), ar_s2n S (show (4 : Nat) ≠ 5 by decide), ar_s2n S (show (6 : Nat) ≠ 5 by decide), ar_s2n S (show (7 : Nat) ≠ 5 by decide), ar_s2n S (show (8 : Nat) ≠ 5 by decide), ar_s2n S (show (9 : Nat) ≠ 5 by decide), s2_ne (S := S) (a := 5) (b := 0) (i := i) (j := 0) (v := v) (by rintro ⟨q, -⟩; cases q), s2_ne (S := S) (a := 5) (b := 0) (i := i) (j := 1) (v := v) (by rintro ⟨q, -⟩; cases q), s2_ne (S := S) (a := 5) (b := 0) (i := i) (j := 2) (v := v) (by rintro ⟨q, -⟩; cases q)]
theorem MW_to (Z : Gm) (S : St) (i v : Int) : MW Z (s2 S 6 i v) = (MW Z S).set 6 (Z.2.1 6, .inl (Z.2.2.2.2, 4, .inl (ar (s2 S 6 i v) 6))) := by
  simp only [MW, List.set_cons_succ, List.set_cons_zero, ar_s2n S (show (1 : Nat) ≠ 6 by decide), ar_s2n S (show (2 : Nat) ≠ 6 by decide), ar_s2n S (show (3 : Nat) ≠ 6 by decide), ar_s2n S (show (4 : Nat) ≠ 6 by decide), ar_s2n S (show (5 : Nat) ≠ 6 by decide), ar_s2n S (show (7 : Nat) ≠ 6 by decide), ar_s2n S (show (8 : Nat) ≠ 6 by decide), ar_s2n S (show (9 : Nat) ≠ 6 by decide), s2_ne (S := S) (a := 6) (b := 0) (i := i) (j := 0) (v := v) (by rintro ⟨q, -⟩; cases q), s2_ne (S := S) (a := 6) (b := 0) (i := i) (j := 1) (v := v) (by rintro ⟨q, -⟩; cases q), s2_ne (S := S) (a := 6) (b := 0) (i := i) (j := 2) (v := v) (by rintro ⟨q, -⟩; cases q)]
theorem MW_all (Z : Gm) (S : St) (v : Int) : MW Z (s2 S 0 2 v) = (MW Z S).set 0 (Z.2.1 0, .inr (1, [vI (S 0 0), vI (S 0 1), .ref (Z.2.1 1), .ref (Z.2.1 2), .ref (Z.2.1 3), .ref (Z.2.1 4), .ref (Z.2.1 5), .ref (Z.2.1 6), vI (S 0 2), .ref (Z.2.1 7), .ref (Z.2.1 8), .ref (Z.2.1 9)].set 8 (vI v))) := by
  simp only [MW, List.set_cons_succ, List.set_cons_zero, s2_eq, ar_s2n S (show (1 : Nat) ≠ 0 by decide), ar_s2n S (show (2 : Nat) ≠ 0 by decide), ar_s2n S (show (3 : Nat) ≠ 0 by decide), ar_s2n S (show (4 : Nat) ≠ 0 by decide), ar_s2n S (show (5 : Nat) ≠ 0 by decide), ar_s2n S (show (6 : Nat) ≠ 0 by decide), ar_s2n S (show (7 : Nat) ≠ 0 by decide), ar_s2n S (show (8 : Nat) ≠ 0 by decide), ar_s2n S (show (9 : Nat) ≠ 0 by decide), s2_ne (S := S) (a := 0) (b := 0) (i := 2) (j := 0) (v := v) (by decide), s2_ne (S := S) (a := 0) (b := 0) (i := 2) (j := 1) (v := v) (by decide)]
theorem MW_lo (Z : Gm) (S : St) (i v : Int) : MW Z (s2 S 7 i v) = (MW Z S).set 7 (Z.2.1 7, .inl (Z.2.2.2.2, 7, .inl (ar (s2 S 7 i v) 7))) := by
  simp only [MW, List.set_cons_succ, List.set_cons_zero, ar_s2n S (show (1 : Nat) ≠ 7 by decide), ar_s2n S (show (2 : Nat) ≠ 7 by decide), ar_s2n S (show (3 : Nat) ≠ 7 by decide), ar_s2n S (show (4 : Nat) ≠ 7 by decide), ar_s2n S (show (5 : Nat) ≠ 7 by decide), ar_s2n S (show (6 : Nat) ≠ 7 by decide), ar_s2n S (show (8 : Nat) ≠ 7 by decide), ar_s2n S (show (9 : Nat) ≠ 7 by decide), s2_ne (S := S) (a := 7) (b := 0) (i := i) (j := 0) (v := v) (by rintro ⟨q, -⟩; cases q), s2_ne (S := S) (a := 7) (b := 0) (i := i) (j := 1) (v := v) (by rintro ⟨q, -⟩; cases q), s2_ne (S := S) (a := 7) (b := 0) (i := i) (j := 2) (v := v) (by rintro ⟨q, -⟩; cases q)]
theorem MW_hi (Z : Gm) (S : St) (i v : Int) : MW Z (s2 S 8 i v) = (MW Z S).set 8 (Z.2.1 8, .inl (Z.2.2.2.2, 7, .inl (ar (s2 S 8 i v) 8))) := by
  simp only [MW, List.set_cons_succ, List.set_cons_zero, ar_s2n S (show (1 : Nat) ≠ 8 by decide), ar_s2n S (show (2 : Nat) ≠ 8 by decide), ar_s2n S (show (3 : Nat) ≠ 8 by decide), ar_s2n S (show (4 : Nat) ≠ 8 by decide), ar_s2n S (show (5 : Nat) ≠ 8 by decide), ar_s2n S (show (6 : Nat) ≠ 8 by decide), ar_s2n S (show (7 : Nat) ≠ 8 by decide), ar_s2n S (show (9 : Nat) ≠ 8 by decide), s2_ne (S := S) (a := 8) (b := 0) (i := i) (j := 0) (v := v) (by rintro ⟨q, -⟩; cases q), s2_ne (S := S) (a := 8) (b := 0) (i := i) (j := 1) (v := v) (by rintro ⟨q, -⟩; cases q), s2_ne (S := S) (a := 8) (b := 0) (i := i) (j := 2) (v := v) (by rintro ⟨q, -⟩; cases q)]
theorem MW_can (Z : Gm) (S : St) (i v : Int) : MW Z (s2 S 9 i v) = (MW Z S).set 9 (Z.2.1 9, .inl (Z.2.2.1, 5248, .inl (ar (s2 S 9 i v) 9))) := by
  simp only [MW, List.set_cons_succ, List.set_cons_zero, ar_s2n S (show (1 : Nat) ≠ 9 by decide), ar_s2n S (show (2 : Nat) ≠ 9 by decide), ar_s2n S (show (3 : Nat) ≠ 9 by decide), ar_s2n S (show (4 : Nat) ≠ 9 by decide), ar_s2n S (show (5 : Nat) ≠ 9 by decide), ar_s2n S (show (6 : Nat) ≠ 9 by decide), ar_s2n S (show (7 : Nat) ≠ 9 by decide), ar_s2n S (show (8 : Nat) ≠ 9 by decide), s2_ne (S := S) (a := 9) (b := 0) (i := i) (j := 0) (v := v) (by rintro ⟨q, -⟩; cases q), s2_ne (S := S) (a := 9) (b := 0) (i := i) (j := 1) (v := v) (by rintro ⟨q, -⟩; cases q), s2_ne (S := S) (a := 9) (b := 0) (i := i) (j := 2) (v := v) (by rintro ⟨q, -⟩; cases q)]
theorem okM_held {S : St} (h : okM S) {j v : Int} (h1 : 0 ≤ v) (h2 : v ≤ 1) : okM (s2 S 1 j v) := by
  exact ⟨by rw [s2_ne (by rintro ⟨q, -⟩; cases q)]; exact h.1, by rw [s2_ne (by rintro ⟨q, -⟩; cases q)]; exact h.2.1, by rw [s2_ne (by rintro ⟨q, -⟩; cases q)]; exact h.2.2.1, s2_bd h.2.2.2.1 h1 h2, fun i => by rw [s2_ne (by rintro ⟨q, -⟩; cases q)]; exact h.2.2.2.2.1 i, fun i => by rw [s2_ne (by rintro ⟨q, -⟩; cases q)]; exact h.2.2.2.2.2.1 i, fun i => by rw [s2_ne (by rintro ⟨q, -⟩; cases q)]; exact h.2.2.2.2.2.2.1 i, fun i => by rw [s2_ne (by rintro ⟨q, -⟩; cases q)]; exact h.2.2.2.2.2.2.2.1 i, fun i => by rw [s2_ne (by rintro ⟨q, -⟩; cases q)]; exact h.2.2.2.2.2.2.2.2.1 i, fun i => by rw [s2_ne (by rintro ⟨q, -⟩; cases q)]; exact h.2.2.2.2.2.2.2.2.2.1 i, fun i => by rw [s2_ne (by rintro ⟨q, -⟩; cases q)]; exact h.2.2.2.2.2.2.2.2.2.2.1 i, fun i => by rw [s2_ne (by rintro ⟨q, -⟩; cases q)]; exact h.2.2.2.2.2.2.2.2.2.2.2 i⟩
theorem okM_rel {S : St} (h : okM S) {j v : Int} (h1 : (-1000) ≤ v) (h2 : v ≤ 1000) : okM (s2 S 2 j v) := by
  exact ⟨by rw [s2_ne (by rintro ⟨q, -⟩; cases q)]; exact h.1, by rw [s2_ne (by rintro ⟨q, -⟩; cases q)]; exact h.2.1, by rw [s2_ne (by rintro ⟨q, -⟩; cases q)]; exact h.2.2.1, fun i => by rw [s2_ne (by rintro ⟨q, -⟩; cases q)]; exact h.2.2.2.1 i, s2_bd h.2.2.2.2.1 h1 h2, fun i => by rw [s2_ne (by rintro ⟨q, -⟩; cases q)]; exact h.2.2.2.2.2.1 i, fun i => by rw [s2_ne (by rintro ⟨q, -⟩; cases q)]; exact h.2.2.2.2.2.2.1 i, fun i => by rw [s2_ne (by rintro ⟨q, -⟩; cases q)]; exact h.2.2.2.2.2.2.2.1 i, fun i => by rw [s2_ne (by rintro ⟨q, -⟩; cases q)]; exact h.2.2.2.2.2.2.2.2.1 i, fun i => by rw [s2_ne (by rintro ⟨q, -⟩; cases q)]; exact h.2.2.2.2.2.2.2.2.2.1 i, fun i => by rw [s2_ne (by rintro ⟨q, -⟩; cases q)]; exact h.2.2.2.2.2.2.2.2.2.2.1 i, fun i => by rw [s2_ne (by rintro ⟨q, -⟩; cases q)]; exact h.2.2.2.2.2.2.2.2.2.2.2 i⟩
theorem okM_dead {S : St} (h : okM S) {j v : Int} (h1 : (-1000) ≤ v) (h2 : v ≤ 1000) : okM (s2 S 3 j v) := by
  exact ⟨by rw [s2_ne (by rintro ⟨q, -⟩; cases q)]; exact h.1, by rw [s2_ne (by rintro ⟨q, -⟩; cases q)]; exact h.2.1, by rw [s2_ne (by rintro ⟨q, -⟩; cases q)]; exact h.2.2.1, fun i => by rw [s2_ne (by rintro ⟨q, -⟩; cases q)]; exact h.2.2.2.1 i, fun i => by rw [s2_ne (by rintro ⟨q, -⟩; cases q)]; exact h.2.2.2.2.1 i, s2_bd h.2.2.2.2.2.1 h1 h2, fun i => by rw [s2_ne (by rintro ⟨q, -⟩; cases q)]; exact h.2.2.2.2.2.2.1 i, fun i => by rw [s2_ne (by rintro ⟨q, -⟩; cases q)]; exact h.2.2.2.2.2.2.2.1 i, fun i => by rw [s2_ne (by rintro ⟨q, -⟩; cases q)]; exact h.2.2.2.2.2.2.2.2.1 i, fun i => by rw [s2_ne (by rintro ⟨q, -⟩; cases q)]; exact h.2.2.2.2.2.2.2.2.2.1 i, fun i => by rw [s2_ne (by rintro ⟨q, -⟩; cases q)]; exact h.2.2.2.2.2.2.2.2.2.2.1 i, fun i => by rw [s2_ne (by rintro ⟨q, -⟩; cases q)]; exact h.2.2.2.2.2.2.2.2.2.2.2 i⟩
theorem okM_shut {S : St} (h : okM S) {j v : Int} (h1 : 0 ≤ v) (h2 : v ≤ 1) : okM (s2 S 4 j v) := by
  exact ⟨by rw [s2_ne (by rintro ⟨q, -⟩; cases q)]; exact h.1, by rw [s2_ne (by rintro ⟨q, -⟩; cases q)]; exact h.2.1, by rw [s2_ne (by rintro ⟨q, -⟩; cases q)]; exact h.2.2.1, fun i => by rw [s2_ne (by rintro ⟨q, -⟩; cases q)]; exact h.2.2.2.1 i, fun i => by rw [s2_ne (by rintro ⟨q, -⟩; cases q)]; exact h.2.2.2.2.1 i, fun i => by rw [s2_ne (by rintro ⟨q, -⟩; cases q)]; exact h.2.2.2.2.2.1 i, s2_bd h.2.2.2.2.2.2.1 h1 h2, fun i => by rw [s2_ne (by rintro ⟨q, -⟩; cases q)]; exact h.2.2.2.2.2.2.2.1 i, fun i => by rw [s2_ne (by rintro ⟨q, -⟩; cases q)]; exact h.2.2.2.2.2.2.2.2.1 i, fun i => by rw [s2_ne (by rintro ⟨q, -⟩; cases q)]; exact h.2.2.2.2.2.2.2.2.2.1 i, fun i => by rw [s2_ne (by rintro ⟨q, -⟩; cases q)]; exact h.2.2.2.2.2.2.2.2.2.2.1 i, fun i => by rw [s2_ne (by rintro ⟨q, -⟩; cases q)]; exact h.2.2.2.2.2.2.2.2.2.2.2 i⟩
theorem okM_from {S : St} (h : okM S) {j v : Int} (h1 : (-1000) ≤ v) (h2 : v ≤ 1000) : okM (s2 S 5 j v) := by
  exact ⟨by rw [s2_ne (by rintro ⟨q, -⟩; cases q)]; exact h.1, by rw [s2_ne (by rintro ⟨q, -⟩; cases q)]; exact h.2.1, by rw [s2_ne (by rintro ⟨q, -⟩; cases q)]; exact h.2.2.1, fun i => by rw [s2_ne (by rintro ⟨q, -⟩; cases q)]; exact h.2.2.2.1 i, fun i => by rw [s2_ne (by rintro ⟨q, -⟩; cases q)]; exact h.2.2.2.2.1 i, fun i => by rw [s2_ne (by rintro ⟨q, -⟩; cases q)]; exact h.2.2.2.2.2.1 i, fun i => by rw [s2_ne (by rintro ⟨q, -⟩; cases q)]; exact h.2.2.2.2.2.2.1 i, s2_bd h.2.2.2.2.2.2.2.1 h1 h2, fun i => by rw [s2_ne (by rintro ⟨q, -⟩; cases q)]; exact h.2.2.2.2.2.2.2.2.1 i, fun i => by rw [s2_ne (by rintro ⟨q, -⟩; cases q)]; exact h.2.2.2.2.2.2.2.2.2.1 i, fun i => by rw [s2_ne (by rintro ⟨q, -⟩; cases q)]; exact h.2.2.2.2.2.2.2.2.2.2.1 i, fun i => by rw [s2_ne (by rintro ⟨q, -⟩; cases q)]; exact h.2.2.2.2.2.2.2.2.2.2.2 i⟩
theorem okM_to {S : St} (h : okM S) {j v : Int} (h1 : (-1000) ≤ v) (h2 : v ≤ 1000) : okM (s2 S 6 j v) := by
  exact ⟨by rw [s2_ne (by rintro ⟨q, -⟩; cases q)]; exact h.1, by rw [s2_ne (by rintro ⟨q, -⟩; cases q)]; exact h.2.1, by rw [s2_ne (by rintro ⟨q, -⟩; cases q)]; exact h.2.2.1, fun i => by rw [s2_ne (by rintro ⟨q, -⟩; cases q)]; exact h.2.2.2.1 i, fun i => by rw [s2_ne (by rintro ⟨q, -⟩; cases q)]; exact h.2.2.2.2.1 i, fun i => by rw [s2_ne (by rintro ⟨q, -⟩; cases q)]; exact h.2.2.2.2.2.1 i, fun i => by rw [s2_ne (by rintro ⟨q, -⟩; cases q)]; exact h.2.2.2.2.2.2.1 i, fun i => by rw [s2_ne (by rintro ⟨q, -⟩; cases q)]; exact h.2.2.2.2.2.2.2.1 i, s2_bd h.2.2.2.2.2.2.2.2.1 h1 h2, fun i => by rw [s2_ne (by rintro ⟨q, -⟩; cases q)]; exact h.2.2.2.2.2.2.2.2.2.1 i, fun i => by rw [s2_ne (by rintro ⟨q, -⟩; cases q)]; exact h.2.2.2.2.2.2.2.2.2.2.1 i, fun i => by rw [s2_ne (by rintro ⟨q, -⟩; cases q)]; exact h.2.2.2.2.2.2.2.2.2.2.2 i⟩
theorem okM_all {S : St} (h : okM S) {v : Int} (h1 : 0 ≤ v) (h2 : v ≤ 127) : okM (s2 S 0 2 v) := by
  exact ⟨by rw [s2_ne (by decide)]; exact h.1, by rw [s2_ne (by decide)]; exact h.2.1, by rw [s2_eq]; exact ⟨h1, h2⟩, fun i => by rw [s2_ne (by rintro ⟨q, -⟩; cases q)]; exact h.2.2.2.1 i, fun i => by rw [s2_ne (by rintro ⟨q, -⟩; cases q)]; exact h.2.2.2.2.1 i, fun i => by rw [s2_ne (by rintro ⟨q, -⟩; cases q)]; exact h.2.2.2.2.2.1 i, fun i => by rw [s2_ne (by rintro ⟨q, -⟩; cases q)]; exact h.2.2.2.2.2.2.1 i, fun i => by rw [s2_ne (by rintro ⟨q, -⟩; cases q)]; exact h.2.2.2.2.2.2.2.1 i, fun i => by rw [s2_ne (by rintro ⟨q, -⟩; cases q)]; exact h.2.2.2.2.2.2.2.2.1 i, fun i => by rw [s2_ne (by rintro ⟨q, -⟩; cases q)]; exact h.2.2.2.2.2.2.2.2.2.1 i, fun i => by rw [s2_ne (by rintro ⟨q, -⟩; cases q)]; exact h.2.2.2.2.2.2.2.2.2.2.1 i, fun i => by rw [s2_ne (by rintro ⟨q, -⟩; cases q)]; exact h.2.2.2.2.2.2.2.2.2.2.2 i⟩
theorem okM_lo {S : St} (h : okM S) {j v : Int} (h1 : (-1000) ≤ v) (h2 : v ≤ 1000) : okM (s2 S 7 j v) := by
  exact ⟨by rw [s2_ne (by rintro ⟨q, -⟩; cases q)]; exact h.1, by rw [s2_ne (by rintro ⟨q, -⟩; cases q)]; exact h.2.1, by rw [s2_ne (by rintro ⟨q, -⟩; cases q)]; exact h.2.2.1, fun i => by rw [s2_ne (by rintro ⟨q, -⟩; cases q)]; exact h.2.2.2.1 i, fun i => by rw [s2_ne (by rintro ⟨q, -⟩; cases q)]; exact h.2.2.2.2.1 i, fun i => by rw [s2_ne (by rintro ⟨q, -⟩; cases q)]; exact h.2.2.2.2.2.1 i, fun i => by rw [s2_ne (by rintro ⟨q, -⟩; cases q)]; exact h.2.2.2.2.2.2.1 i, fun i => by rw [s2_ne (by rintro ⟨q, -⟩; cases q)]; exact h.2.2.2.2.2.2.2.1 i, fun i => by rw [s2_ne (by rintro ⟨q, -⟩; cases q)]; exact h.2.2.2.2.2.2.2.2.1 i, s2_bd h.2.2.2.2.2.2.2.2.2.1 h1 h2, fun i => by rw [s2_ne (by rintro ⟨q, -⟩; cases q)]; exact h.2.2.2.2.2.2.2.2.2.2.1 i, fun i => by rw [s2_ne (by rintro ⟨q, -⟩; cases q)]; exact h.2.2.2.2.2.2.2.2.2.2.2 i⟩
theorem okM_hi {S : St} (h : okM S) {j v : Int} (h1 : (-1000) ≤ v) (h2 : v ≤ 1000) : okM (s2 S 8 j v) := by
  exact ⟨by rw [s2_ne (by rintro ⟨q, -⟩; cases q)]; exact h.1, by rw [s2_ne (by rintro ⟨q, -⟩; cases q)]; exact h.2.1, by rw [s2_ne (by rintro ⟨q, -⟩; cases q)]; exact h.2.2.1, fun i => by rw [s2_ne (by rintro ⟨q, -⟩; cases q)]; exact h.2.2.2.1 i, fun i => by rw [s2_ne (by rintro ⟨q, -⟩; cases q)]; exact h.2.2.2.2.1 i, fun i => by rw [s2_ne (by rintro ⟨q, -⟩; cases q)]; exact h.2.2.2.2.2.1 i, fun i => by rw [s2_ne (by rintro ⟨q, -⟩; cases q)]; exact h.2.2.2.2.2.2.1 i, fun i => by rw [s2_ne (by rintro ⟨q, -⟩; cases q)]; exact h.2.2.2.2.2.2.2.1 i, fun i => by rw [s2_ne (by rintro ⟨q, -⟩; cases q)]; exact h.2.2.2.2.2.2.2.2.1 i, fun i => by rw [s2_ne (by rintro ⟨q, -⟩; cases q)]; exact h.2.2.2.2.2.2.2.2.2.1 i, s2_bd h.2.2.2.2.2.2.2.2.2.2.1 h1 h2, fun i => by rw [s2_ne (by rintro ⟨q, -⟩; cases q)]; exact h.2.2.2.2.2.2.2.2.2.2.2 i⟩
theorem okM_can {S : St} (h : okM S) {j v : Int} (h1 : 0 ≤ v) (h2 : v ≤ 1) : okM (s2 S 9 j v) := by
  exact ⟨by rw [s2_ne (by rintro ⟨q, -⟩; cases q)]; exact h.1, by rw [s2_ne (by rintro ⟨q, -⟩; cases q)]; exact h.2.1, by rw [s2_ne (by rintro ⟨q, -⟩; cases q)]; exact h.2.2.1, fun i => by rw [s2_ne (by rintro ⟨q, -⟩; cases q)]; exact h.2.2.2.1 i, fun i => by rw [s2_ne (by rintro ⟨q, -⟩; cases q)]; exact h.2.2.2.2.1 i, fun i => by rw [s2_ne (by rintro ⟨q, -⟩; cases q)]; exact h.2.2.2.2.2.1 i, fun i => by rw [s2_ne (by rintro ⟨q, -⟩; cases q)]; exact h.2.2.2.2.2.2.1 i, fun i => by rw [s2_ne (by rintro ⟨q, -⟩; cases q)]; exact h.2.2.2.2.2.2.2.1 i, fun i => by rw [s2_ne (by rintro ⟨q, -⟩; cases q)]; exact h.2.2.2.2.2.2.2.2.1 i, fun i => by rw [s2_ne (by rintro ⟨q, -⟩; cases q)]; exact h.2.2.2.2.2.2.2.2.2.1 i, fun i => by rw [s2_ne (by rintro ⟨q, -⟩; cases q)]; exact h.2.2.2.2.2.2.2.2.2.2.1 i, s2_bd h.2.2.2.2.2.2.2.2.2.2.2 h1 h2⟩
section JM
variable {X : Cx} {cc : ByteArray} {nL lev pc : Nat} {ret : Option FieldType} {post : Int → St → Prop} {S : St} {L : List (Option Value)} {st : List Value}
theorem jm_gf_len (hC : CX X R_M cc nL ret lev) (hG : GM X) (hd : decode cc pc = .ok (.getfield 38, 3)) (k : 1 ≤ S 0 0 → S 0 0 ≤ 6 → J X nL ret post S (pc + 3) L (vI (S 0 0) :: st)) : J X nL ret post S pc L (.ref (gA X 0) :: st) := by
  intro ho H locs ls hP hD hS hl
  have hb : okM S := hG.2 ▸ ho
  exact va_get (D := (xZ X).1) (ci := 1) (C := R_M) (T := F_M) (N := 12) hC.1 hC.2.1 hC.2.2.2.2.2.2.1 ig_M hC.2.2.2.2.2.1 hC.2.2.2.2.2.2.2.1 (hG.1 ▸ hP) 0 rfl rfl 0 (by decide) (hC.2.2.2.2.2.2.1 (.fieldLink R_M 38 "EqualJobPlannerModel" "len" "I") gf_M_38) (fun _ h9 => h9) rfl hd (k hb.1.1 hb.1.2 ho H locs ls hP hD hS hl)
theorem jm_gf_cap (hC : CX X R_M cc nL ret lev) (hG : GM X) (hd : decode cc pc = .ok (.getfield 42, 3)) (k : 1 ≤ S 0 1 → S 0 1 ≤ 6 → J X nL ret post S (pc + 3) L (vI (S 0 1) :: st)) : J X nL ret post S pc L (.ref (gA X 0) :: st) := by
  intro ho H locs ls hP hD hS hl
  have hb : okM S := hG.2 ▸ ho
  exact va_get (D := (xZ X).1) (ci := 1) (C := R_M) (T := F_M) (N := 12) hC.1 hC.2.1 hC.2.2.2.2.2.2.1 ig_M hC.2.2.2.2.2.1 hC.2.2.2.2.2.2.2.1 (hG.1 ▸ hP) 0 rfl rfl 1 (by decide) (hC.2.2.2.2.2.2.1 (.fieldLink R_M 42 "EqualJobPlannerModel" "cap" "I") gf_M_42) (fun _ h9 => h9) rfl hd (k hb.2.1.1 hb.2.1.2 ho H locs ls hP hD hS hl)
theorem jm_gf_held (hC : CX X R_M cc nL ret lev) (hG : GM X) (hd : decode cc pc = .ok (.getfield 7, 3)) (k : J X nL ret post S (pc + 3) L (.ref (gA X 1) :: st)) : J X nL ret post S pc L (.ref (gA X 0) :: st) := by
  intro ho H locs ls hP hD hS hl
  exact va_get (D := (xZ X).1) (ci := 1) (C := R_M) (T := F_M) (N := 12) hC.1 hC.2.1 hC.2.2.2.2.2.2.1 ig_M hC.2.2.2.2.2.1 hC.2.2.2.2.2.2.2.1 (hG.1 ▸ hP) 0 rfl rfl 2 (by decide) (hC.2.2.2.2.2.2.1 (.fieldLink R_M 7 "EqualJobPlannerModel" "held" "[Z") gf_M_7) (fun _ h9 => h9) rfl hd (k ho H locs ls hP hD hS hl)
theorem jm_ld_held (hC : CX X R_M cc nL ret lev) (hG : GM X) {i : Int} (hd : decode cc pc = .ok (.baload, 1)) (k : 0 ≤ S 1 i → S 1 i ≤ 1 → J X nL ret post S (pc + 1) L (vI (S 1 i) :: st)) (h1 : 0 ≤ i := by omega) (h2 : i < 6 := by omega) : J X nL ret post S pc L (vI i :: .ref (gA X 1) :: st) := by
  intro ho H locs ls hP hD hS hl
  have hb : okM S := hG.2 ▸ ho
  refine va_zald hC.1 hC.2.1 hC.2.2.2.2.2.2.2.1 (show va_P (xZ X).1 classes (MW (xZ X) S) H from hG.1 ▸ hP) 1 0 rfl rfl (oi_in h1 (by omega) (by decide)) hd ?_
  rw [oi_clamp h1 (by omega)]
  have e : ar S 1 i.toNat = Int32.ofInt (S 1 i) := by unfold ar; rw [Int.toNat_of_nonneg h1]
  rw [e]
  exact k (hb.2.2.2.1 i).1 (hb.2.2.2.1 i).2 ho H locs ls hP hD hS hl
theorem jm_st_held (hC : CX X R_M cc nL ret lev) (hG : GM X) {i v : Int} (hd : decode cc pc = .ok (.bastore, 1)) (k : J X nL ret post (s2 S 1 i v) (pc + 1) L st) (h0 : 0 ≤ i := by omega) (h3 : i < 6 := by omega) (h1 : 0 ≤ v := by omega) (h2 : v ≤ 1 := by omega) : J X nL ret post S pc L (vI v :: vI i :: .ref (gA X 1) :: st) := by
  intro ho H locs ls hP hD hS hl
  have hb : okM S := hG.2 ▸ ho
  refine va_zast hC.1 hC.2.1 hC.2.2.2.2.2.2.2.1 (show va_P (xZ X).1 classes (MW (xZ X) S) H from hG.1 ▸ hP) (show va_D (xA X) (MW (xZ X) S) from hG.1 ▸ hD) hS 1 0 rfl rfl (oi_in h0 (by omega) (by decide)) hd (fun H1 locs1 hP1 hD1 hS1 => ?_)
  rw [oi_clamp h0 (by omega)] at hP1 hD1
  rw [oi_nz h1 h2] at hP1 hD1
  rw [ar_s2 S 1 h0, ← MW_held] at hP1 hD1
  exact k (hG.2 ▸ okM_held hb h1 h2) H1 locs1 ls (hG.1 ▸ hP1) (hG.1 ▸ hD1) hS1 hl
theorem jm_gf_rel (hC : CX X R_M cc nL ret lev) (hG : GM X) (hd : decode cc pc = .ok (.getfield 13, 3)) (k : J X nL ret post S (pc + 3) L (.ref (gA X 2) :: st)) : J X nL ret post S pc L (.ref (gA X 0) :: st) := by
  intro ho H locs ls hP hD hS hl
  exact va_get (D := (xZ X).1) (ci := 1) (C := R_M) (T := F_M) (N := 12) hC.1 hC.2.1 hC.2.2.2.2.2.2.1 ig_M hC.2.2.2.2.2.1 hC.2.2.2.2.2.2.2.1 (hG.1 ▸ hP) 0 rfl rfl 3 (by decide) (hC.2.2.2.2.2.2.1 (.fieldLink R_M 13 "EqualJobPlannerModel" "rel" "[I") gf_M_13) (fun _ h9 => h9) rfl hd (k ho H locs ls hP hD hS hl)
theorem jm_ld_rel (hC : CX X R_M cc nL ret lev) (hG : GM X) {i : Int} (hd : decode cc pc = .ok (.iaload, 1)) (k : (-1000) ≤ S 2 i → S 2 i ≤ 1000 → J X nL ret post S (pc + 1) L (vI (S 2 i) :: st)) (h1 : 0 ≤ i := by omega) (h2 : i < 6 := by omega) : J X nL ret post S pc L (vI i :: .ref (gA X 2) :: st) := by
  intro ho H locs ls hP hD hS hl
  have hb : okM S := hG.2 ▸ ho
  refine va_iald hC.1 hC.2.1 hC.2.2.2.2.2.2.2.1 (show va_P (xZ X).1 classes (MW (xZ X) S) H from hG.1 ▸ hP) 2 2 rfl rfl (oi_in h1 (by omega) (by decide)) hd ?_
  rw [oi_clamp h1 (by omega)]
  have e : ar S 2 i.toNat = Int32.ofInt (S 2 i) := by unfold ar; rw [Int.toNat_of_nonneg h1]
  rw [e]
  exact k (hb.2.2.2.2.1 i).1 (hb.2.2.2.2.1 i).2 ho H locs ls hP hD hS hl
theorem jm_st_rel (hC : CX X R_M cc nL ret lev) (hG : GM X) {i v : Int} (hd : decode cc pc = .ok (.iastore, 1)) (k : J X nL ret post (s2 S 2 i v) (pc + 1) L st) (h0 : 0 ≤ i := by omega) (h3 : i < 6 := by omega) (h1 : (-1000) ≤ v := by omega) (h2 : v ≤ 1000 := by omega) : J X nL ret post S pc L (vI v :: vI i :: .ref (gA X 2) :: st) := by
  intro ho H locs ls hP hD hS hl
  have hb : okM S := hG.2 ▸ ho
  refine va_iast hC.1 hC.2.1 hC.2.2.2.2.2.2.2.1 (show va_P (xZ X).1 classes (MW (xZ X) S) H from hG.1 ▸ hP) (show va_D (xA X) (MW (xZ X) S) from hG.1 ▸ hD) hS 2 2 rfl rfl (oi_in h0 (by omega) (by decide)) hd (fun H1 locs1 hP1 hD1 hS1 => ?_)
  rw [oi_clamp h0 (by omega)] at hP1 hD1
  rw [ar_s2 S 2 h0, ← MW_rel] at hP1 hD1
  exact k (hG.2 ▸ okM_rel hb h1 h2) H1 locs1 ls (hG.1 ▸ hP1) (hG.1 ▸ hD1) hS1 hl
theorem jm_gf_dead (hC : CX X R_M cc nL ret lev) (hG : GM X) (hd : decode cc pc = .ok (.getfield 17, 3)) (k : J X nL ret post S (pc + 3) L (.ref (gA X 3) :: st)) : J X nL ret post S pc L (.ref (gA X 0) :: st) := by
  intro ho H locs ls hP hD hS hl
  exact va_get (D := (xZ X).1) (ci := 1) (C := R_M) (T := F_M) (N := 12) hC.1 hC.2.1 hC.2.2.2.2.2.2.1 ig_M hC.2.2.2.2.2.1 hC.2.2.2.2.2.2.2.1 (hG.1 ▸ hP) 0 rfl rfl 4 (by decide) (hC.2.2.2.2.2.2.1 (.fieldLink R_M 17 "EqualJobPlannerModel" "dead" "[I") gf_M_17) (fun _ h9 => h9) rfl hd (k ho H locs ls hP hD hS hl)
theorem jm_ld_dead (hC : CX X R_M cc nL ret lev) (hG : GM X) {i : Int} (hd : decode cc pc = .ok (.iaload, 1)) (k : (-1000) ≤ S 3 i → S 3 i ≤ 1000 → J X nL ret post S (pc + 1) L (vI (S 3 i) :: st)) (h1 : 0 ≤ i := by omega) (h2 : i < 6 := by omega) : J X nL ret post S pc L (vI i :: .ref (gA X 3) :: st) := by
  intro ho H locs ls hP hD hS hl
  have hb : okM S := hG.2 ▸ ho
  refine va_iald hC.1 hC.2.1 hC.2.2.2.2.2.2.2.1 (show va_P (xZ X).1 classes (MW (xZ X) S) H from hG.1 ▸ hP) 3 2 rfl rfl (oi_in h1 (by omega) (by decide)) hd ?_
  rw [oi_clamp h1 (by omega)]
  have e : ar S 3 i.toNat = Int32.ofInt (S 3 i) := by unfold ar; rw [Int.toNat_of_nonneg h1]
  rw [e]
  exact k (hb.2.2.2.2.2.1 i).1 (hb.2.2.2.2.2.1 i).2 ho H locs ls hP hD hS hl
theorem jm_st_dead (hC : CX X R_M cc nL ret lev) (hG : GM X) {i v : Int} (hd : decode cc pc = .ok (.iastore, 1)) (k : J X nL ret post (s2 S 3 i v) (pc + 1) L st) (h0 : 0 ≤ i := by omega) (h3 : i < 6 := by omega) (h1 : (-1000) ≤ v := by omega) (h2 : v ≤ 1000 := by omega) : J X nL ret post S pc L (vI v :: vI i :: .ref (gA X 3) :: st) := by
  intro ho H locs ls hP hD hS hl
  have hb : okM S := hG.2 ▸ ho
  refine va_iast hC.1 hC.2.1 hC.2.2.2.2.2.2.2.1 (show va_P (xZ X).1 classes (MW (xZ X) S) H from hG.1 ▸ hP) (show va_D (xA X) (MW (xZ X) S) from hG.1 ▸ hD) hS 3 2 rfl rfl (oi_in h0 (by omega) (by decide)) hd (fun H1 locs1 hP1 hD1 hS1 => ?_)
  rw [oi_clamp h0 (by omega)] at hP1 hD1
  rw [ar_s2 S 3 h0, ← MW_dead] at hP1 hD1
  exact k (hG.2 ▸ okM_dead hb h1 h2) H1 locs1 ls (hG.1 ▸ hP1) (hG.1 ▸ hD1) hS1 hl
theorem jm_gf_shut (hC : CX X R_M cc nL ret lev) (hG : GM X) (hd : decode cc pc = .ok (.getfield 20, 3)) (k : J X nL ret post S (pc + 3) L (.ref (gA X 4) :: st)) : J X nL ret post S pc L (.ref (gA X 0) :: st) := by
  intro ho H locs ls hP hD hS hl
  exact va_get (D := (xZ X).1) (ci := 1) (C := R_M) (T := F_M) (N := 12) hC.1 hC.2.1 hC.2.2.2.2.2.2.1 ig_M hC.2.2.2.2.2.1 hC.2.2.2.2.2.2.2.1 (hG.1 ▸ hP) 0 rfl rfl 5 (by decide) (hC.2.2.2.2.2.2.1 (.fieldLink R_M 20 "EqualJobPlannerModel" "shut" "[Z") gf_M_20) (fun _ h9 => h9) rfl hd (k ho H locs ls hP hD hS hl)
theorem jm_ld_shut (hC : CX X R_M cc nL ret lev) (hG : GM X) {i : Int} (hd : decode cc pc = .ok (.baload, 1)) (k : 0 ≤ S 4 i → S 4 i ≤ 1 → J X nL ret post S (pc + 1) L (vI (S 4 i) :: st)) (h1 : 0 ≤ i := by omega) (h2 : i < 4 := by omega) : J X nL ret post S pc L (vI i :: .ref (gA X 4) :: st) := by
  intro ho H locs ls hP hD hS hl
  have hb : okM S := hG.2 ▸ ho
  refine va_zald hC.1 hC.2.1 hC.2.2.2.2.2.2.2.1 (show va_P (xZ X).1 classes (MW (xZ X) S) H from hG.1 ▸ hP) 4 0 rfl rfl (oi_in h1 (by omega) (by decide)) hd ?_
  rw [oi_clamp h1 (by omega)]
  have e : ar S 4 i.toNat = Int32.ofInt (S 4 i) := by unfold ar; rw [Int.toNat_of_nonneg h1]
  rw [e]
  exact k (hb.2.2.2.2.2.2.1 i).1 (hb.2.2.2.2.2.2.1 i).2 ho H locs ls hP hD hS hl
theorem jm_st_shut (hC : CX X R_M cc nL ret lev) (hG : GM X) {i v : Int} (hd : decode cc pc = .ok (.bastore, 1)) (k : J X nL ret post (s2 S 4 i v) (pc + 1) L st) (h0 : 0 ≤ i := by omega) (h3 : i < 4 := by omega) (h1 : 0 ≤ v := by omega) (h2 : v ≤ 1 := by omega) : J X nL ret post S pc L (vI v :: vI i :: .ref (gA X 4) :: st) := by
  intro ho H locs ls hP hD hS hl
  have hb : okM S := hG.2 ▸ ho
  refine va_zast hC.1 hC.2.1 hC.2.2.2.2.2.2.2.1 (show va_P (xZ X).1 classes (MW (xZ X) S) H from hG.1 ▸ hP) (show va_D (xA X) (MW (xZ X) S) from hG.1 ▸ hD) hS 4 0 rfl rfl (oi_in h0 (by omega) (by decide)) hd (fun H1 locs1 hP1 hD1 hS1 => ?_)
  rw [oi_clamp h0 (by omega)] at hP1 hD1
  rw [oi_nz h1 h2] at hP1 hD1
  rw [ar_s2 S 4 h0, ← MW_shut] at hP1 hD1
  exact k (hG.2 ▸ okM_shut hb h1 h2) H1 locs1 ls (hG.1 ▸ hP1) (hG.1 ▸ hD1) hS1 hl
theorem jm_gf_from (hC : CX X R_M cc nL ret lev) (hG : GM X) (hd : decode cc pc = .ok (.getfield 23, 3)) (k : J X nL ret post S (pc + 3) L (.ref (gA X 5) :: st)) : J X nL ret post S pc L (.ref (gA X 0) :: st) := by
  intro ho H locs ls hP hD hS hl
  exact va_get (D := (xZ X).1) (ci := 1) (C := R_M) (T := F_M) (N := 12) hC.1 hC.2.1 hC.2.2.2.2.2.2.1 ig_M hC.2.2.2.2.2.1 hC.2.2.2.2.2.2.2.1 (hG.1 ▸ hP) 0 rfl rfl 6 (by decide) (hC.2.2.2.2.2.2.1 (.fieldLink R_M 23 "EqualJobPlannerModel" "from" "[I") gf_M_23) (fun _ h9 => h9) rfl hd (k ho H locs ls hP hD hS hl)
theorem jm_ld_from (hC : CX X R_M cc nL ret lev) (hG : GM X) {i : Int} (hd : decode cc pc = .ok (.iaload, 1)) (k : (-1000) ≤ S 5 i → S 5 i ≤ 1000 → J X nL ret post S (pc + 1) L (vI (S 5 i) :: st)) (h1 : 0 ≤ i := by omega) (h2 : i < 4 := by omega) : J X nL ret post S pc L (vI i :: .ref (gA X 5) :: st) := by
  intro ho H locs ls hP hD hS hl
  have hb : okM S := hG.2 ▸ ho
  refine va_iald hC.1 hC.2.1 hC.2.2.2.2.2.2.2.1 (show va_P (xZ X).1 classes (MW (xZ X) S) H from hG.1 ▸ hP) 5 2 rfl rfl (oi_in h1 (by omega) (by decide)) hd ?_
  rw [oi_clamp h1 (by omega)]
  have e : ar S 5 i.toNat = Int32.ofInt (S 5 i) := by unfold ar; rw [Int.toNat_of_nonneg h1]
  rw [e]
  exact k (hb.2.2.2.2.2.2.2.1 i).1 (hb.2.2.2.2.2.2.2.1 i).2 ho H locs ls hP hD hS hl
theorem jm_st_from (hC : CX X R_M cc nL ret lev) (hG : GM X) {i v : Int} (hd : decode cc pc = .ok (.iastore, 1)) (k : J X nL ret post (s2 S 5 i v) (pc + 1) L st) (h0 : 0 ≤ i := by omega) (h3 : i < 4 := by omega) (h1 : (-1000) ≤ v := by omega) (h2 : v ≤ 1000 := by omega) : J X nL ret post S pc L (vI v :: vI i :: .ref (gA X 5) :: st) := by
  intro ho H locs ls hP hD hS hl
  have hb : okM S := hG.2 ▸ ho
  refine va_iast hC.1 hC.2.1 hC.2.2.2.2.2.2.2.1 (show va_P (xZ X).1 classes (MW (xZ X) S) H from hG.1 ▸ hP) (show va_D (xA X) (MW (xZ X) S) from hG.1 ▸ hD) hS 5 2 rfl rfl (oi_in h0 (by omega) (by decide)) hd (fun H1 locs1 hP1 hD1 hS1 => ?_)
  rw [oi_clamp h0 (by omega)] at hP1 hD1
  rw [ar_s2 S 5 h0, ← MW_from] at hP1 hD1
  exact k (hG.2 ▸ okM_from hb h1 h2) H1 locs1 ls (hG.1 ▸ hP1) (hG.1 ▸ hD1) hS1 hl
theorem jm_gf_to (hC : CX X R_M cc nL ret lev) (hG : GM X) (hd : decode cc pc = .ok (.getfield 26, 3)) (k : J X nL ret post S (pc + 3) L (.ref (gA X 6) :: st)) : J X nL ret post S pc L (.ref (gA X 0) :: st) := by
  intro ho H locs ls hP hD hS hl
  exact va_get (D := (xZ X).1) (ci := 1) (C := R_M) (T := F_M) (N := 12) hC.1 hC.2.1 hC.2.2.2.2.2.2.1 ig_M hC.2.2.2.2.2.1 hC.2.2.2.2.2.2.2.1 (hG.1 ▸ hP) 0 rfl rfl 7 (by decide) (hC.2.2.2.2.2.2.1 (.fieldLink R_M 26 "EqualJobPlannerModel" "to" "[I") gf_M_26) (fun _ h9 => h9) rfl hd (k ho H locs ls hP hD hS hl)
theorem jm_ld_to (hC : CX X R_M cc nL ret lev) (hG : GM X) {i : Int} (hd : decode cc pc = .ok (.iaload, 1)) (k : (-1000) ≤ S 6 i → S 6 i ≤ 1000 → J X nL ret post S (pc + 1) L (vI (S 6 i) :: st)) (h1 : 0 ≤ i := by omega) (h2 : i < 4 := by omega) : J X nL ret post S pc L (vI i :: .ref (gA X 6) :: st) := by
  intro ho H locs ls hP hD hS hl
  have hb : okM S := hG.2 ▸ ho
  refine va_iald hC.1 hC.2.1 hC.2.2.2.2.2.2.2.1 (show va_P (xZ X).1 classes (MW (xZ X) S) H from hG.1 ▸ hP) 6 2 rfl rfl (oi_in h1 (by omega) (by decide)) hd ?_
  rw [oi_clamp h1 (by omega)]
  have e : ar S 6 i.toNat = Int32.ofInt (S 6 i) := by unfold ar; rw [Int.toNat_of_nonneg h1]
  rw [e]
  exact k (hb.2.2.2.2.2.2.2.2.1 i).1 (hb.2.2.2.2.2.2.2.2.1 i).2 ho H locs ls hP hD hS hl
theorem jm_st_to (hC : CX X R_M cc nL ret lev) (hG : GM X) {i v : Int} (hd : decode cc pc = .ok (.iastore, 1)) (k : J X nL ret post (s2 S 6 i v) (pc + 1) L st) (h0 : 0 ≤ i := by omega) (h3 : i < 4 := by omega) (h1 : (-1000) ≤ v := by omega) (h2 : v ≤ 1000 := by omega) : J X nL ret post S pc L (vI v :: vI i :: .ref (gA X 6) :: st) := by
  intro ho H locs ls hP hD hS hl
  have hb : okM S := hG.2 ▸ ho
  refine va_iast hC.1 hC.2.1 hC.2.2.2.2.2.2.2.1 (show va_P (xZ X).1 classes (MW (xZ X) S) H from hG.1 ▸ hP) (show va_D (xA X) (MW (xZ X) S) from hG.1 ▸ hD) hS 6 2 rfl rfl (oi_in h0 (by omega) (by decide)) hd (fun H1 locs1 hP1 hD1 hS1 => ?_)
  rw [oi_clamp h0 (by omega)] at hP1 hD1
  rw [ar_s2 S 6 h0, ← MW_to] at hP1 hD1
  exact k (hG.2 ▸ okM_to hb h1 h2) H1 locs1 ls (hG.1 ▸ hP1) (hG.1 ▸ hD1) hS1 hl
theorem jm_gf_all (hC : CX X R_M cc nL ret lev) (hG : GM X) (hd : decode cc pc = .ok (.getfield 45, 3)) (k : 0 ≤ S 0 2 → S 0 2 ≤ 127 → J X nL ret post S (pc + 3) L (vI (S 0 2) :: st)) : J X nL ret post S pc L (.ref (gA X 0) :: st) := by
  intro ho H locs ls hP hD hS hl
  have hb : okM S := hG.2 ▸ ho
  exact va_get (D := (xZ X).1) (ci := 1) (C := R_M) (T := F_M) (N := 12) hC.1 hC.2.1 hC.2.2.2.2.2.2.1 ig_M hC.2.2.2.2.2.1 hC.2.2.2.2.2.2.2.1 (hG.1 ▸ hP) 0 rfl rfl 8 (by decide) (hC.2.2.2.2.2.2.1 (.fieldLink R_M 45 "EqualJobPlannerModel" "all" "I") gf_M_45) (fun _ h9 => h9) rfl hd (k hb.2.2.1.1 hb.2.2.1.2 ho H locs ls hP hD hS hl)
theorem jm_pf_all (hC : CX X R_M cc nL ret lev) (hG : GM X) {v : Int} (hd : decode cc pc = .ok (.putfield 45, 3)) (k : J X nL ret post (s2 S 0 2 v) (pc + 3) L st) (h1 : 0 ≤ v := by omega) (h2 : v ≤ 127 := by omega) : J X nL ret post S pc L (vI v :: .ref (gA X 0) :: st) := by
  intro ho H locs ls hP hD hS hl
  have hb : okM S := hG.2 ▸ ho
  refine va_put (D := (xZ X).1) (ci := 1) (v := vI v) (ty := .int) (C := R_M) (T := F_M) (N := 12) hC.1 hC.2.1 hC.2.2.2.2.2.2.1 ig_M t_M t_M_ok n_M hC.2.2.2.2.2.1 hC.2.2.2.2.2.2.2.1 (show va_P (xZ X).1 classes (MW (xZ X) S) H from hG.1 ▸ hP) (show va_D (xA X) (MW (xZ X) S) from hG.1 ▸ hD) hS 0 rfl rfl 8 (by decide) (hC.2.2.2.2.2.2.1 (.fieldLink R_M 45 "EqualJobPlannerModel" "all" "I") gf_M_45) (fun _ h9 => h9) rfl (by decide +kernel) rfl rfl (Nat.le_of_ble_eq_true rfl) hd (fun H1 locs1 hP1 hD1 hS1 => ?_)
  rw [← MW_all] at hP1 hD1
  exact k (hG.2 ▸ okM_all hb h1 h2) H1 locs1 ls (hG.1 ▸ hP1) (hG.1 ▸ hD1) hS1 hl
theorem jm_gf_lo (hC : CX X R_M cc nL ret lev) (hG : GM X) (hd : decode cc pc = .ok (.getfield 29, 3)) (k : J X nL ret post S (pc + 3) L (.ref (gA X 7) :: st)) : J X nL ret post S pc L (.ref (gA X 0) :: st) := by
  intro ho H locs ls hP hD hS hl
  exact va_get (D := (xZ X).1) (ci := 1) (C := R_M) (T := F_M) (N := 12) hC.1 hC.2.1 hC.2.2.2.2.2.2.1 ig_M hC.2.2.2.2.2.1 hC.2.2.2.2.2.2.2.1 (hG.1 ▸ hP) 0 rfl rfl 9 (by decide) (hC.2.2.2.2.2.2.1 (.fieldLink R_M 29 "EqualJobPlannerModel" "lo" "[I") gf_M_29) (fun _ h9 => h9) rfl hd (k ho H locs ls hP hD hS hl)
theorem jm_ld_lo (hC : CX X R_M cc nL ret lev) (hG : GM X) {i : Int} (hd : decode cc pc = .ok (.iaload, 1)) (k : (-1000) ≤ S 7 i → S 7 i ≤ 1000 → J X nL ret post S (pc + 1) L (vI (S 7 i) :: st)) (h1 : 0 ≤ i := by omega) (h2 : i < 7 := by omega) : J X nL ret post S pc L (vI i :: .ref (gA X 7) :: st) := by
  intro ho H locs ls hP hD hS hl
  have hb : okM S := hG.2 ▸ ho
  refine va_iald hC.1 hC.2.1 hC.2.2.2.2.2.2.2.1 (show va_P (xZ X).1 classes (MW (xZ X) S) H from hG.1 ▸ hP) 7 2 rfl rfl (oi_in h1 (by omega) (by decide)) hd ?_
  rw [oi_clamp h1 (by omega)]
  have e : ar S 7 i.toNat = Int32.ofInt (S 7 i) := by unfold ar; rw [Int.toNat_of_nonneg h1]
  rw [e]
  exact k (hb.2.2.2.2.2.2.2.2.2.1 i).1 (hb.2.2.2.2.2.2.2.2.2.1 i).2 ho H locs ls hP hD hS hl
theorem jm_st_lo (hC : CX X R_M cc nL ret lev) (hG : GM X) {i v : Int} (hd : decode cc pc = .ok (.iastore, 1)) (k : J X nL ret post (s2 S 7 i v) (pc + 1) L st) (h0 : 0 ≤ i := by omega) (h3 : i < 7 := by omega) (h1 : (-1000) ≤ v := by omega) (h2 : v ≤ 1000 := by omega) : J X nL ret post S pc L (vI v :: vI i :: .ref (gA X 7) :: st) := by
  intro ho H locs ls hP hD hS hl
  have hb : okM S := hG.2 ▸ ho
  refine va_iast hC.1 hC.2.1 hC.2.2.2.2.2.2.2.1 (show va_P (xZ X).1 classes (MW (xZ X) S) H from hG.1 ▸ hP) (show va_D (xA X) (MW (xZ X) S) from hG.1 ▸ hD) hS 7 2 rfl rfl (oi_in h0 (by omega) (by decide)) hd (fun H1 locs1 hP1 hD1 hS1 => ?_)
  rw [oi_clamp h0 (by omega)] at hP1 hD1
  rw [ar_s2 S 7 h0, ← MW_lo] at hP1 hD1
  exact k (hG.2 ▸ okM_lo hb h1 h2) H1 locs1 ls (hG.1 ▸ hP1) (hG.1 ▸ hD1) hS1 hl
theorem jm_gf_hi (hC : CX X R_M cc nL ret lev) (hG : GM X) (hd : decode cc pc = .ok (.getfield 32, 3)) (k : J X nL ret post S (pc + 3) L (.ref (gA X 8) :: st)) : J X nL ret post S pc L (.ref (gA X 0) :: st) := by
  intro ho H locs ls hP hD hS hl
  exact va_get (D := (xZ X).1) (ci := 1) (C := R_M) (T := F_M) (N := 12) hC.1 hC.2.1 hC.2.2.2.2.2.2.1 ig_M hC.2.2.2.2.2.1 hC.2.2.2.2.2.2.2.1 (hG.1 ▸ hP) 0 rfl rfl 10 (by decide) (hC.2.2.2.2.2.2.1 (.fieldLink R_M 32 "EqualJobPlannerModel" "hi" "[I") gf_M_32) (fun _ h9 => h9) rfl hd (k ho H locs ls hP hD hS hl)
theorem jm_ld_hi (hC : CX X R_M cc nL ret lev) (hG : GM X) {i : Int} (hd : decode cc pc = .ok (.iaload, 1)) (k : (-1000) ≤ S 8 i → S 8 i ≤ 1000 → J X nL ret post S (pc + 1) L (vI (S 8 i) :: st)) (h1 : 0 ≤ i := by omega) (h2 : i < 7 := by omega) : J X nL ret post S pc L (vI i :: .ref (gA X 8) :: st) := by
  intro ho H locs ls hP hD hS hl
  have hb : okM S := hG.2 ▸ ho
  refine va_iald hC.1 hC.2.1 hC.2.2.2.2.2.2.2.1 (show va_P (xZ X).1 classes (MW (xZ X) S) H from hG.1 ▸ hP) 8 2 rfl rfl (oi_in h1 (by omega) (by decide)) hd ?_
  rw [oi_clamp h1 (by omega)]
  have e : ar S 8 i.toNat = Int32.ofInt (S 8 i) := by unfold ar; rw [Int.toNat_of_nonneg h1]
  rw [e]
  exact k (hb.2.2.2.2.2.2.2.2.2.2.1 i).1 (hb.2.2.2.2.2.2.2.2.2.2.1 i).2 ho H locs ls hP hD hS hl
theorem jm_st_hi (hC : CX X R_M cc nL ret lev) (hG : GM X) {i v : Int} (hd : decode cc pc = .ok (.iastore, 1)) (k : J X nL ret post (s2 S 8 i v) (pc + 1) L st) (h0 : 0 ≤ i := by omega) (h3 : i < 7 := by omega) (h1 : (-1000) ≤ v := by omega) (h2 : v ≤ 1000 := by omega) : J X nL ret post S pc L (vI v :: vI i :: .ref (gA X 8) :: st) := by
  intro ho H locs ls hP hD hS hl
  have hb : okM S := hG.2 ▸ ho
  refine va_iast hC.1 hC.2.1 hC.2.2.2.2.2.2.2.1 (show va_P (xZ X).1 classes (MW (xZ X) S) H from hG.1 ▸ hP) (show va_D (xA X) (MW (xZ X) S) from hG.1 ▸ hD) hS 8 2 rfl rfl (oi_in h0 (by omega) (by decide)) hd (fun H1 locs1 hP1 hD1 hS1 => ?_)
  rw [oi_clamp h0 (by omega)] at hP1 hD1
  rw [ar_s2 S 8 h0, ← MW_hi] at hP1 hD1
  exact k (hG.2 ▸ okM_hi hb h1 h2) H1 locs1 ls (hG.1 ▸ hP1) (hG.1 ▸ hD1) hS1 hl
theorem jm_gf_can (hC : CX X R_M cc nL ret lev) (hG : GM X) (hd : decode cc pc = .ok (.getfield 35, 3)) (k : J X nL ret post S (pc + 3) L (.ref (gA X 9) :: st)) : J X nL ret post S pc L (.ref (gA X 0) :: st) := by
  intro ho H locs ls hP hD hS hl
  exact va_get (D := (xZ X).1) (ci := 1) (C := R_M) (T := F_M) (N := 12) hC.1 hC.2.1 hC.2.2.2.2.2.2.1 ig_M hC.2.2.2.2.2.1 hC.2.2.2.2.2.2.2.1 (hG.1 ▸ hP) 0 rfl rfl 11 (by decide) (hC.2.2.2.2.2.2.1 (.fieldLink R_M 35 "EqualJobPlannerModel" "can" "[Z") gf_M_35) (fun _ h9 => h9) rfl hd (k ho H locs ls hP hD hS hl)
theorem jm_ld_can (hC : CX X R_M cc nL ret lev) (hG : GM X) {i : Int} (hd : decode cc pc = .ok (.baload, 1)) (k : 0 ≤ S 9 i → S 9 i ≤ 1 → J X nL ret post S (pc + 1) L (vI (S 9 i) :: st)) (h1 : 0 ≤ i := by omega) (h2 : i < 5248 := by omega) : J X nL ret post S pc L (vI i :: .ref (gA X 9) :: st) := by
  intro ho H locs ls hP hD hS hl
  have hb : okM S := hG.2 ▸ ho
  refine va_zald hC.1 hC.2.1 hC.2.2.2.2.2.2.2.1 (show va_P (xZ X).1 classes (MW (xZ X) S) H from hG.1 ▸ hP) 9 0 rfl rfl (oi_in h1 (by omega) (by decide)) hd ?_
  rw [oi_clamp h1 (by omega)]
  have e : ar S 9 i.toNat = Int32.ofInt (S 9 i) := by unfold ar; rw [Int.toNat_of_nonneg h1]
  rw [e]
  exact k (hb.2.2.2.2.2.2.2.2.2.2.2 i).1 (hb.2.2.2.2.2.2.2.2.2.2.2 i).2 ho H locs ls hP hD hS hl
theorem jm_st_can (hC : CX X R_M cc nL ret lev) (hG : GM X) {i v : Int} (hd : decode cc pc = .ok (.bastore, 1)) (k : J X nL ret post (s2 S 9 i v) (pc + 1) L st) (h0 : 0 ≤ i := by omega) (h3 : i < 5248 := by omega) (h1 : 0 ≤ v := by omega) (h2 : v ≤ 1 := by omega) : J X nL ret post S pc L (vI v :: vI i :: .ref (gA X 9) :: st) := by
  intro ho H locs ls hP hD hS hl
  have hb : okM S := hG.2 ▸ ho
  refine va_zast hC.1 hC.2.1 hC.2.2.2.2.2.2.2.1 (show va_P (xZ X).1 classes (MW (xZ X) S) H from hG.1 ▸ hP) (show va_D (xA X) (MW (xZ X) S) from hG.1 ▸ hD) hS 9 0 rfl rfl (oi_in h0 (by omega) (by decide)) hd (fun H1 locs1 hP1 hD1 hS1 => ?_)
  rw [oi_clamp h0 (by omega)] at hP1 hD1
  rw [oi_nz h1 h2] at hP1 hD1
  rw [ar_s2 S 9 h0, ← MW_can] at hP1 hD1
  exact k (hG.2 ▸ okM_can hb h1 h2) H1 locs1 ls (hG.1 ▸ hP1) (hG.1 ▸ hD1) hS1 hl
theorem jm_recv (hC : CX X R_M cc nL ret lev) (hG : GM X) (H : Heap) (hP : va_P (xZ X).1 classes (xW X (xZ X) S) H) : ∃ cellB : Cell, H[gA X 0]? = some cellB ∧ cellB.vm.isStatics = false ∧ (xS X).vm.findClass R_M = some cellB.cls :=
  va_recv hC.2.2.2.2.2.2.2.1 (show va_P (xZ X).1 classes (MW (xZ X) S) H from hG.1 ▸ hP) (ci := 1) (q0 := 0) rfl rfl
variable {y : MethodName} {b : ByteArray} {n lv idx : Nat} {rt : FieldType} {post' : Int → St → Prop}
theorem jm_calli0 (hC : CX X R_M cc nL ret lev) (hG : GM X) (hw : CW lev R_M idx y b n (some rt) lv 0) (hy : y.cls = R_M) (hd : decode cc pc = .ok (.invokevirtual idx, 3)) (hM : Ct MW okM y b n (some rt) lv [] S post')
    (k : ∀ (z : Int) (S' : St), post' z S' → okM S' → J X nL ret post S' (pc + 3) L (vI z :: st)) (hst : (st.map fun v => v.category).sum ≤ 8 := by exact Nat.le_of_ble_eq_true rfl) : J X nL ret post S pc L (.ref (gA X 0) :: st) :=
  j_calli_g (xs := []) hC hw (by rw [hG.1, hG.2]; exact hM) (fun H hP => by rw [hy]; exact jm_recv hC hG H hP) hd hst (fun z S' hp ho => k z S' hp (hG.2 ▸ ho))
theorem jm_calli1 {x1 : Int} (hC : CX X R_M cc nL ret lev) (hG : GM X) (hw : CW lev R_M idx y b n (some rt) lv 1) (hy : y.cls = R_M) (hd : decode cc pc = .ok (.invokevirtual idx, 3)) (hM : Ct MW okM y b n (some rt) lv [x1] S post')
    (k : ∀ (z : Int) (S' : St), post' z S' → okM S' → J X nL ret post S' (pc + 3) L (vI z :: st)) (hst : (st.map fun v => v.category).sum ≤ 8 := by exact Nat.le_of_ble_eq_true rfl) : J X nL ret post S pc L (vI x1 :: .ref (gA X 0) :: st) :=
  j_calli_g (xs := [x1]) hC hw (by rw [hG.1, hG.2]; exact hM) (fun H hP => by rw [hy]; exact jm_recv hC hG H hP) hd hst (fun z S' hp ho => k z S' hp (hG.2 ▸ ho))
theorem jm_calli2 {x1 x2 : Int} (hC : CX X R_M cc nL ret lev) (hG : GM X) (hw : CW lev R_M idx y b n (some rt) lv 2) (hy : y.cls = R_M) (hd : decode cc pc = .ok (.invokevirtual idx, 3)) (hM : Ct MW okM y b n (some rt) lv [x1, x2] S post')
    (k : ∀ (z : Int) (S' : St), post' z S' → okM S' → J X nL ret post S' (pc + 3) L (vI z :: st)) (hst : (st.map fun v => v.category).sum ≤ 8 := by exact Nat.le_of_ble_eq_true rfl) : J X nL ret post S pc L (vI x2 :: vI x1 :: .ref (gA X 0) :: st) :=
  j_calli_g (xs := [x1, x2]) hC hw (by rw [hG.1, hG.2]; exact hM) (fun H hP => by rw [hy]; exact jm_recv hC hG H hP) hd hst (fun z S' hp ho => k z S' hp (hG.2 ▸ ho))
theorem jm_calli3 {x1 x2 x3 : Int} (hC : CX X R_M cc nL ret lev) (hG : GM X) (hw : CW lev R_M idx y b n (some rt) lv 3) (hy : y.cls = R_M) (hd : decode cc pc = .ok (.invokevirtual idx, 3)) (hM : Ct MW okM y b n (some rt) lv [x1, x2, x3] S post')
    (k : ∀ (z : Int) (S' : St), post' z S' → okM S' → J X nL ret post S' (pc + 3) L (vI z :: st)) (hst : (st.map fun v => v.category).sum ≤ 8 := by exact Nat.le_of_ble_eq_true rfl) : J X nL ret post S pc L (vI x3 :: vI x2 :: vI x1 :: .ref (gA X 0) :: st) :=
  j_calli_g (xs := [x1, x2, x3]) hC hw (by rw [hG.1, hG.2]; exact hM) (fun H hP => by rw [hy]; exact jm_recv hC hG H hP) hd hst (fun z S' hp ho => k z S' hp (hG.2 ▸ ho))
theorem jm_callv0 (hC : CX X R_M cc nL ret lev) (hG : GM X) (hw : CW lev R_M idx y b n none lv 0) (hy : y.cls = R_M) (hd : decode cc pc = .ok (.invokevirtual idx, 3)) (hM : Ct MW okM y b n none lv [] S post')
    (k : ∀ (S' : St), post' 0 S' → okM S' → J X nL ret post S' (pc + 3) L st) (hst : (st.map fun v => v.category).sum ≤ 8 := by exact Nat.le_of_ble_eq_true rfl) : J X nL ret post S pc L (.ref (gA X 0) :: st) :=
  j_callv_g (xs := []) hC hw (by rw [hG.1, hG.2]; exact hM) (fun H hP => by rw [hy]; exact jm_recv hC hG H hP) hd hst (fun S' hp ho => k S' hp (hG.2 ▸ ho))
theorem jm_callv1 {x1 : Int} (hC : CX X R_M cc nL ret lev) (hG : GM X) (hw : CW lev R_M idx y b n none lv 1) (hy : y.cls = R_M) (hd : decode cc pc = .ok (.invokevirtual idx, 3)) (hM : Ct MW okM y b n none lv [x1] S post')
    (k : ∀ (S' : St), post' 0 S' → okM S' → J X nL ret post S' (pc + 3) L st) (hst : (st.map fun v => v.category).sum ≤ 8 := by exact Nat.le_of_ble_eq_true rfl) : J X nL ret post S pc L (vI x1 :: .ref (gA X 0) :: st) :=
  j_callv_g (xs := [x1]) hC hw (by rw [hG.1, hG.2]; exact hM) (fun H hP => by rw [hy]; exact jm_recv hC hG H hP) hd hst (fun S' hp ho => k S' hp (hG.2 ▸ ho))
theorem jm_callv2 {x1 x2 : Int} (hC : CX X R_M cc nL ret lev) (hG : GM X) (hw : CW lev R_M idx y b n none lv 2) (hy : y.cls = R_M) (hd : decode cc pc = .ok (.invokevirtual idx, 3)) (hM : Ct MW okM y b n none lv [x1, x2] S post')
    (k : ∀ (S' : St), post' 0 S' → okM S' → J X nL ret post S' (pc + 3) L st) (hst : (st.map fun v => v.category).sum ≤ 8 := by exact Nat.le_of_ble_eq_true rfl) : J X nL ret post S pc L (vI x2 :: vI x1 :: .ref (gA X 0) :: st) :=
  j_callv_g (xs := [x1, x2]) hC hw (by rw [hG.1, hG.2]; exact hM) (fun H hP => by rw [hy]; exact jm_recv hC hG H hP) hd hst (fun S' hp ho => k S' hp (hG.2 ▸ ho))
theorem jm_callv3 {x1 x2 x3 : Int} (hC : CX X R_M cc nL ret lev) (hG : GM X) (hw : CW lev R_M idx y b n none lv 3) (hy : y.cls = R_M) (hd : decode cc pc = .ok (.invokevirtual idx, 3)) (hM : Ct MW okM y b n none lv [x1, x2, x3] S post')
    (k : ∀ (S' : St), post' 0 S' → okM S' → J X nL ret post S' (pc + 3) L st) (hst : (st.map fun v => v.category).sum ≤ 8 := by exact Nat.le_of_ble_eq_true rfl) : J X nL ret post S pc L (vI x3 :: vI x2 :: vI x1 :: .ref (gA X 0) :: st) :=
  j_callv_g (xs := [x1, x2, x3]) hC hw (by rw [hG.1, hG.2]; exact hM) (fun H hP => by rw [hy]; exact jm_recv hC hG H hP) hd hst (fun S' hp ho => k S' hp (hG.2 ▸ ho))
end JM
end
section
-- ROWS FOR BITS (small numbers)
def pw (j : Int) : Int := 2 ^ j.toNat
def iOr (x y : Int) : Int := ((x.toNat ||| y.toNat : Nat) : Int)
theorem oi_nI {x : Int} (h : 0 ≤ x) : Int32.ofInt x = nI x.toNat := by
  show Int32.ofInt x = Int32.ofNat x.toNat
  rw [← Int32.ofInt_eq_ofNat, Int.toNat_of_nonneg h]
theorem oi_nat (n : Nat) : Int32.ofInt (n : Int) = nI n := by rw [oi_nI (by omega)]; rfl
theorem oi_shl1 {j : Int} (h1 : 0 ≤ j) (h2 : j ≤ 30) : Int32.ofInt 1 <<< (Int32.ofInt j &&& 31) = Int32.ofInt (pw j) := by
  have : ∀ k : Fin 31, Int32.ofInt 1 <<< (Int32.ofInt (k.val : Int) &&& 31) = Int32.ofInt (2 ^ k.val) := by decide +kernel
  have h := this ⟨j.toNat, by omega⟩
  rw [Int.toNat_of_nonneg h1] at h
  exact h
theorem oi_shr {x j : Int} (x1 : -2147483648 ≤ x) (x2 : x ≤ 2147483647) (h1 : 0 ≤ j) (h2 : j ≤ 30) : Int32.ofInt x >>> (Int32.ofInt j &&& 31) = Int32.ofInt (x / pw j) := by
  have : ∀ k : Fin 31, ((Int32.ofInt (k.val : Int) &&& 31).toBitVec.smod 32).toNat = k.val := by decide +kernel
  have h := this ⟨j.toNat, by omega⟩
  rw [Int.toNat_of_nonneg h1] at h
  have hp : (1 : Int) ≤ pw j := by
    have : 0 < (2 : Int) ^ j.toNat := Int.pow_pos (by decide)
    unfold pw
    omega
  have hq : -2147483648 ≤ x / pw j ∧ x / pw j ≤ 2147483647 := by
    have hp0 : 0 < pw j := by omega
    constructor
    · rw [Int.le_ediv_iff_mul_le hp0]
      have : -2147483648 * pw j ≤ -2147483648 * 1 := by omega
      omega
    · have h3 : x / pw j ≤ x ∨ x / pw j ≤ 0 := by
        rcases Int.lt_or_le x 0 with h | h
        · right
          have := Int.ediv_neg_of_neg_of_pos h hp0
          omega
        · left
          exact Int.ediv_le_self _ h
      omega
  apply Int32.toInt_inj.mp
  rw [pk_shr _ _ j.toNat h, oi_t x1 x2, oi_t hq.1 hq.2, Int.shiftRight_eq_div_pow]
  rfl
theorem oi_or {x y : Int} (x1 : 0 ≤ x) (y1 : 0 ≤ y) : Int32.ofInt x ||| Int32.ofInt y = Int32.ofInt (iOr x y) := by
  unfold iOr
  rw [oi_nI x1, oi_nI y1, oi_nat]
  apply Int32.toBitVec_inj.mp
  rw [Int32.toBitVec_or]
  show BitVec.ofNat 32 _ ||| BitVec.ofNat 32 _ = BitVec.ofNat 32 _
  apply BitVec.eq_of_getLsbD_eq
  intro i hi
  simp [BitVec.getLsbD_ofNat, hi, Nat.testBit_or]
theorem oi_and {x : Int} (x1 : 0 ≤ x) (x2 : x ≤ 2147483647) {m : Int32} (k : Nat) (hm : m.toBitVec.toNat = 2 ^ k - 1) : Int32.ofInt x &&& m = Int32.ofInt (x % 2 ^ k) := by
  rw [oi_nI x1, pk_andN (by omega) k hm, ← oi_nat, Int.natCast_emod, Int.toNat_of_nonneg x1]
  rfl
section JB
variable {X : Cx} {own : String} {cc : ByteArray} {nL lev pc : Nat} {ret : Option FieldType} {post : Int → St → Prop} {S : St} {L : List (Option Value)} {st : List Value}
theorem j_shl1 (hC : CX X own cc nL ret lev) {j : Int} (hd : decode cc pc = .ok (.ishl, 1)) (k : J X nL ret post S (pc + 1) L (vI (pw j) :: st)) (h1 : 0 ≤ j := by omega) (h2 : j ≤ 30 := by omega) : J X nL ret post S pc L (vI j :: vI 1 :: st) :=
  fun ho H locs ls hP hD hS hl => lv_ishl hC.1 hC.2.1 hd (by rw [oi_shl1 h1 h2]; exact k ho H locs ls hP hD hS hl)
theorem j_shr (hC : CX X own cc nL ret lev) {x j : Int} (hd : decode cc pc = .ok (.ishr, 1)) (k : J X nL ret post S (pc + 1) L (vI (x / pw j) :: st)) (x1 : -2147483648 ≤ x := by omega) (x2 : x ≤ 2147483647 := by omega) (h1 : 0 ≤ j := by omega) (h2 : j ≤ 30 := by omega) : J X nL ret post S pc L (vI j :: vI x :: st) :=
  fun ho H locs ls hP hD hS hl => lv_ishr hC.1 hC.2.1 hd (by rw [oi_shr x1 x2 h1 h2]; exact k ho H locs ls hP hD hS hl)
theorem j_shr1 (hC : CX X own cc nL ret lev) {x : Int} (hd : decode cc pc = .ok (.ishr, 1)) (k : J X nL ret post S (pc + 1) L (vI (x / 2) :: st)) (x1 : -2147483648 ≤ x := by omega) (x2 : x ≤ 2147483647 := by omega) : J X nL ret post S pc L (vI 1 :: vI x :: st) :=
  j_shr hC hd k x1 x2 (by decide) (by decide)
theorem j_ior (hC : CX X own cc nL ret lev) {x y : Int} (hd : decode cc pc = .ok (.ior, 1)) (k : J X nL ret post S (pc + 1) L (vI (iOr x y) :: st)) (x1 : 0 ≤ x := by omega) (y1 : 0 ≤ y := by omega) : J X nL ret post S pc L (vI y :: vI x :: st) :=
  fun ho H locs ls hP hD hS hl => lv_ior hC.1 hC.2.1 hd (by rw [oi_or x1 y1]; exact k ho H locs ls hP hD hS hl)
theorem j_and1 (hC : CX X own cc nL ret lev) {x : Int} (hd : decode cc pc = .ok (.iand, 1)) (k : J X nL ret post S (pc + 1) L (vI (x % 2) :: st)) (x1 : 0 ≤ x := by omega) (x2 : x ≤ 2147483647 := by omega) : J X nL ret post S pc L (vI 1 :: vI x :: st) :=
  fun ho H locs ls hP hD hS hl => lv_iand hC.1 hC.2.1 hd (by rw [oi_and x1 x2 1 (by decide)]; exact k ho H locs ls hP hD hS hl)
theorem j_and127 (hC : CX X own cc nL ret lev) {x : Int} (hd : decode cc pc = .ok (.iand, 1)) (k : J X nL ret post S (pc + 1) L (vI (x % 128) :: st)) (x1 : 0 ≤ x := by omega) (x2 : x ≤ 2147483647 := by omega) : J X nL ret post S pc L (vI 127 :: vI x :: st) :=
  fun ho H locs ls hP hD hS hl => lv_iand hC.1 hC.2.1 hd (by rw [oi_and x1 x2 7 (by decide)]; exact k ho H locs ls hP hD hS hl)
end JB
end
section
-- WORDS AND ROOM OF THE CALLS: printed by gen/tpl.py
theorem cw_P_51 {lev : Nat} (h : 5 ≤ lev) : CW lev R_P 51 y_P_probe b_P_probe 4 (some .int) 4 2 := ⟨gl_P_51, gm_P_probe, gw_ini_P, by decide +kernel, by decide, h⟩
theorem cw_P_59 {lev : Nat} (h : 1 ≤ lev) : CW lev R_P 59 y_P_windowOk b_P_windowOk 3 (some .boolean) 0 2 := ⟨gl_P_59, gm_P_windowOk, gw_ini_P, by decide +kernel, by decide, h⟩
theorem cw_P_63 {lev : Nat} (h : 1 ≤ lev) : CW lev R_P 63 y_P_freeNumber b_P_freeNumber 2 (some .int) 0 0 := ⟨gl_P_63, gm_P_freeNumber, gw_ini_P, by decide +kernel, by decide, h⟩
theorem cw_P_67 {lev : Nat} (h : 4 ≤ lev) : CW lev R_P 67 y_P_askAll b_P_askAll 1 none 3 0 := ⟨gl_P_67, gm_P_askAll, gw_ini_P, by decide +kernel, by decide, h⟩
theorem cw_P_82 {lev : Nat} (h : 3 ≤ lev) : CW lev R_P 82 y_P_askAllBut b_P_askAllBut 2 none 2 1 := ⟨gl_P_82, gm_P_askAllBut, gw_ini_P, by decide +kernel, by decide, h⟩
theorem cw_P_98 {lev : Nat} (h : 2 ≤ lev) : CW lev R_P 98 y_P_askPinned b_P_askPinned 7 none 1 2 := ⟨gl_P_98, gm_P_askPinned, gw_ini_P, by decide +kernel, by decide, h⟩
theorem cw_P_70 {lev : Nat} (h : 1 ≤ lev) : CW lev R_P 70 y_P_ask b_P_ask 3 none 0 2 := ⟨gl_P_70, gm_P_ask, gw_ini_P, by decide +kernel, by decide, h⟩
theorem cw_P_74 {lev : Nat} (h : 4 ≤ lev) : CW lev R_P 74 y_P_feasible b_P_feasible 4 (some .boolean) 3 0 := ⟨gl_P_74, gm_P_feasible, gw_ini_P, by decide +kernel, by decide, h⟩
theorem cw_P_104 {lev : Nat} (h : 2 ≤ lev) : CW lev R_P 104 y_P_shutBlocks b_P_shutBlocks 2 none 1 0 := ⟨gl_P_104, gm_P_shutBlocks, gw_ini_P, by decide +kernel, by decide, h⟩
theorem cw_P_117 {lev : Nat} (h : 1 ≤ lev) : CW lev R_P 117 y_P_shutBetween b_P_shutBetween 4 none 0 2 := ⟨gl_P_117, gm_P_shutBetween, gw_ini_P, by decide +kernel, by decide, h⟩
theorem cw_P_107 {lev : Nat} (h : 1 ≤ lev) : CW lev R_P 107 y_P_greatestReleaseBelow b_P_greatestReleaseBelow 4 (some .int) 0 1 := ⟨gl_P_107, gm_P_greatestReleaseBelow, gw_ini_P, by decide +kernel, by decide, h⟩
theorem cw_P_111 {lev : Nat} (h : 2 ≤ lev) : CW lev R_P 111 y_P_dispatch b_P_dispatch 5 (some .boolean) 1 0 := ⟨gl_P_111, gm_P_dispatch, gw_ini_P, by decide +kernel, by decide, h⟩
theorem cw_P_129 {lev : Nat} (h : 1 ≤ lev) : CW lev R_P 129 y_P_leastWaitingRelease b_P_leastWaitingRelease 3 (some .int) 0 0 := ⟨gl_P_129, gm_P_leastWaitingRelease, gw_ini_P, by decide +kernel, by decide, h⟩
theorem cw_P_132 {lev : Nat} (h : 1 ≤ lev) : CW lev R_P 132 y_P_openAtOrAfter b_P_openAtOrAfter 3 (some .int) 0 1 := ⟨gl_P_132, gm_P_openAtOrAfter, gw_ini_P, by decide +kernel, by decide, h⟩
theorem cw_P_135 {lev : Nat} (h : 1 ≤ lev) : CW lev R_P 135 y_P_mostUrgent b_P_mostUrgent 4 (some .int) 0 1 := ⟨gl_P_135, gm_P_mostUrgent, gw_ini_P, by decide +kernel, by decide, h⟩
theorem cw_P_114 {lev : Nat} (h : 3 ≤ lev) : CW lev R_P 114 y_P_shutBefore b_P_shutBefore 7 (some .boolean) 2 1 := ⟨gl_P_114, gm_P_shutBefore, gw_ini_P, by decide +kernel, by decide, h⟩
theorem cw_P_120 {lev : Nat} (h : 1 ≤ lev) : CW lev R_P 120 y_P_countWithin b_P_countWithin 5 (some .int) 0 2 := ⟨gl_P_120, gm_P_countWithin, gw_ini_P, by decide +kernel, by decide, h⟩
theorem cw_P_123 {lev : Nat} (h : 2 ≤ lev) : CW lev R_P 123 y_P_backFrom b_P_backFrom 5 (some .int) 1 2 := ⟨gl_P_123, gm_P_backFrom, gw_ini_P, by decide +kernel, by decide, h⟩
theorem cw_P_126 {lev : Nat} (h : 1 ≤ lev) : CW lev R_P 126 y_P_openAtOrBefore b_P_openAtOrBefore 3 (some .int) 0 1 := ⟨gl_P_126, gm_P_openAtOrBefore, gw_ini_P, by decide +kernel, by decide, h⟩
theorem cw_P_78 {lev : Nat} (h : 1 ≤ lev) : CW lev R_P 78 y_P_holds b_P_holds 2 (some .boolean) 0 1 := ⟨gl_P_78, gm_P_holds, gw_ini_P, by decide +kernel, by decide, h⟩
theorem cw_P_89 {lev : Nat} (h : 1 ≤ lev) : CW lev R_P 89 y_P_raise b_P_raise 3 none 0 1 := ⟨gl_P_89, gm_P_raise, gw_ini_P, by decide +kernel, by decide, h⟩
theorem cw_P_92 {lev : Nat} (h : 5 ≤ lev) : CW lev R_P 92 y_P_earliestOf b_P_earliestOf 7 (some .int) 4 2 := ⟨gl_P_92, gm_P_earliestOf, gw_ini_P, by decide +kernel, by decide, h⟩
theorem cw_P_95 {lev : Nat} (h : 6 ≤ lev) : CW lev R_P 95 y_P_makePlan b_P_makePlan 2 none 5 0 := ⟨gl_P_95, gm_P_makePlan, gw_ini_P, by decide +kernel, by decide, h⟩
theorem cw_M_56 {lev : Nat} (h : 4 ≤ lev) : CW lev R_M 56 y_M_probe b_M_probe 4 (some .int) 3 2 := ⟨gl_M_56, gm_M_probe, gw_ini_M, by decide +kernel, by decide, h⟩
theorem cw_M_60 {lev : Nat} (h : 1 ≤ lev) : CW lev R_M 60 y_M_badWindow b_M_badWindow 3 (some .boolean) 0 2 := ⟨gl_M_60, gm_M_badWindow, gw_ini_M, by decide +kernel, by decide, h⟩
theorem cw_M_64 {lev : Nat} (h : 1 ≤ lev) : CW lev R_M 64 y_M_leastFree b_M_leastFree 4 (some .int) 0 0 := ⟨gl_M_64, gm_M_leastFree, gw_ini_M, by decide +kernel, by decide, h⟩
theorem cw_M_68 {lev : Nat} (h : 1 ≤ lev) : CW lev R_M 68 y_M_ask b_M_ask 4 none 0 2 := ⟨gl_M_68, gm_M_ask, gw_ini_M, by decide +kernel, by decide, h⟩
theorem cw_M_71 {lev : Nat} (h : 1 ≤ lev) : CW lev R_M 71 y_M_window b_M_window 4 none 0 3 := ⟨gl_M_71, gm_M_window, gw_ini_M, by decide +kernel, by decide, h⟩
theorem cw_M_75 {lev : Nat} (h : 3 ≤ lev) : CW lev R_M 75 y_M_fits b_M_fits 3 (some .boolean) 2 0 := ⟨gl_M_75, gm_M_fits, gw_ini_M, by decide +kernel, by decide, h⟩
theorem cw_M_48 {lev : Nat} (h : 2 ≤ lev) : CW lev R_M 48 y_M_extend b_M_extend 5 none 1 2 := ⟨gl_M_48, gm_M_extend, gw_ini_M, by decide +kernel, by decide, h⟩
theorem cw_M_52 {lev : Nat} (h : 1 ≤ lev) : CW lev R_M 52 y_M_clear b_M_clear 4 (some .boolean) 0 1 := ⟨gl_M_52, gm_M_clear, gw_ini_M, by decide +kernel, by decide, h⟩
theorem cw_M_79 {lev : Nat} (h : 1 ≤ lev) : CW lev R_M 79 y_M_there b_M_there 2 (some .boolean) 0 1 := ⟨gl_M_79, gm_M_there, gw_ini_M, by decide +kernel, by decide, h⟩
end
section
-- THE PLANNER'S LEAVES
theorem pw_pos (j : Int) : 0 < pw j := Int.pow_pos (by decide)
theorem iOr_pos (x y : Int) : 0 ≤ iOr x y := by unfold iOr; omega
def jb (f : Int → Int) : Nat → Int
  | 0 => 0
  | n + 1 => if f n = 1 then iOr (jb f n) (pw n) else jb f n
theorem jb_pos (f : Int → Int) : ∀ n, 0 ≤ jb f n
  | 0 => by simp [jb]
  | n + 1 => by
    unfold jb
    split
    · exact iOr_pos _ _
    · exact jb_pos f n
theorem jb_1 {f : Int → Int} {k : Int} (h : 0 ≤ k) (q : f k = 1) : jb f (k + 1).toNat = iOr (jb f k.toNat) (pw k) := by
  rw [show (k + 1).toNat = k.toNat + 1 by omega, jb, Int.toNat_of_nonneg h, if_pos q]
theorem jb_0 {f : Int → Int} {k : Int} (h : 0 ≤ k) (q : ¬ f k = 1) : jb f (k + 1).toNat = jb f k.toNat := by
  rw [show (k + 1).toNat = k.toNat + 1 by omega, jb, Int.toNat_of_nonneg h, if_neg q]
theorem jp_ok {X : Cx} {nL pc : Nat} {ret : Option FieldType} {post : Int → St → Prop} {S : St} {L : List (Option Value)} {st : List Value} (hG : GP X) (k : okP S → J X nL ret post S pc L st) : J X nL ret post S pc L st := J.ok (fun h => k (hG.2 ▸ h))
theorem jm_ok {X : Cx} {nL pc : Nat} {ret : Option FieldType} {post : Int → St → Prop} {S : St} {L : List (Option Value)} {st : List Value} (hG : GM X) (k : okM S → J X nL ret post S pc L st) : J X nL ret post S pc L st := J.ok (fun h => k (hG.2 ▸ h))
theorem J.drop {X : Cx} {nL pc m : Nat} {ret : Option FieldType} {post : Int → St → Prop} {S : St} {P r : List (Option Value)} {st : List Value} (k : J X nL ret post S pc (P ++ List.replicate m none) st) : J X nL ret post S pc (P ++ r) st := by
  refine J.mono (fun i v h => ?_) k
  by_cases hi : i < P.length
  · rw [List.getElem?_append_left hi] at h ⊢
    exact h
  · rw [List.getElem?_append_right (by omega), List.getElem?_replicate] at h
    split at h <;> simp at h
theorem j_forget2 {X : Cx} {nL pc : Nat} {ret : Option FieldType} {post : Int → St → Prop} {S : St} {a0 a1 : Option Value} {r : List (Option Value)} {st : List Value} (m : Nat) (k : J X nL ret post S pc (a0 :: a1 :: List.replicate m none) st) : J X nL ret post S pc (a0 :: a1 :: r) st := J.drop (P := [a0, a1]) (m := m) k
theorem j_forget3 {X : Cx} {nL pc : Nat} {ret : Option FieldType} {post : Int → St → Prop} {S : St} {a0 a1 a2 : Option Value} {r : List (Option Value)} {st : List Value} (m : Nat) (k : J X nL ret post S pc (a0 :: a1 :: a2 :: List.replicate m none) st) : J X nL ret post S pc (a0 :: a1 :: a2 :: r) st := J.drop (P := [a0, a1, a2]) (m := m) k
theorem j_forget4 {X : Cx} {nL pc : Nat} {ret : Option FieldType} {post : Int → St → Prop} {S : St} {a0 a1 a2 a3 : Option Value} {r : List (Option Value)} {st : List Value} (m : Nat) (k : J X nL ret post S pc (a0 :: a1 :: a2 :: a3 :: List.replicate m none) st) : J X nL ret post S pc (a0 :: a1 :: a2 :: a3 :: r) st := J.drop (P := [a0, a1, a2, a3]) (m := m) k
theorem j_forget5 {X : Cx} {nL pc : Nat} {ret : Option FieldType} {post : Int → St → Prop} {S : St} {a0 a1 a2 a3 a4 : Option Value} {r : List (Option Value)} {st : List Value} (m : Nat) (k : J X nL ret post S pc (a0 :: a1 :: a2 :: a3 :: a4 :: List.replicate m none) st) : J X nL ret post S pc (a0 :: a1 :: a2 :: a3 :: a4 :: r) st := J.drop (P := [a0, a1, a2, a3, a4]) (m := m) k
theorem j_forget6 {X : Cx} {nL pc : Nat} {ret : Option FieldType} {post : Int → St → Prop} {S : St} {a0 a1 a2 a3 a4 a5 : Option Value} {r : List (Option Value)} {st : List Value} (m : Nat) (k : J X nL ret post S pc (a0 :: a1 :: a2 :: a3 :: a4 :: a5 :: List.replicate m none) st) : J X nL ret post S pc (a0 :: a1 :: a2 :: a3 :: a4 :: a5 :: r) st := J.drop (P := [a0, a1, a2, a3, a4, a5]) (m := m) k
section LeafP
variable {X : Cx} {S : St} {post : Int → St → Prop}
/-- windowOk(r, d) -/
def winOk (S : St) (r d : Int) : Prop := 0 ≤ r ∧ d ≤ 40 ∧ r ≤ 40 ∧ 0 ≤ d ∧ S 0 0 ≤ d - r
theorem c_P_windowOk (S : St) (ho : okP S) (r d : Int) (r1 : -2147483648 ≤ r) (r2 : r ≤ 2147483647) (d1 : -2147483648 ≤ d) (d2 : d ≤ 2147483647) : Ct PW okP y_P_windowOk b_P_windowOk 3 (some .boolean) 0 [r, d] S (fun z u => u = S ∧ ((z = 1 ∧ winOk S r d) ∨ (z = 0 ∧ ¬ winOk S r d))) := by
  refine Ct.of (by decide) (Nat.le_of_ble_eq_true rfl) ho (fun X hW hk hC => ?_)
  have hG : GP X := ⟨hW, hk⟩
  replace hC : CX X R_P b_P_windowOk 3 (some .boolean) 0 := hC
  show J X 3 (some .boolean) _ S 0 [some (.ref (gA X 0)), some (vI r), some (vI d)] []
  refine j_iload_n (pc := 0) hC d_P_windowOk_0 rfl ?_
  refine j_if_lt (pc := 1) (tgt := 34) hC d_P_windowOk_1 (by decide) (fun w1 => ?_) (fun w1 => ?_)
  · refine j_iconst (pc := 34) hC d_P_windowOk_34 ?_
    exact j_zret (pc := 35) hC d_P_windowOk_35 (⟨rfl, Or.inr ⟨rfl, fun h => by unfold winOk at h; omega⟩⟩)
  · refine j_iload_n (pc := 4) hC d_P_windowOk_4 rfl ?_
    refine j_bipush (pc := 5) hC d_P_windowOk_5 (by decide) ?_
    refine j_icmp_gt (pc := 7) (tgt := 34) hC d_P_windowOk_7 (by decide) (fun w7 => ?_) (fun w7 => ?_)
    · refine j_iconst (pc := 34) hC d_P_windowOk_34 ?_
      exact j_zret (pc := 35) hC d_P_windowOk_35 (⟨rfl, Or.inr ⟨rfl, fun h => by unfold winOk at h; omega⟩⟩)
    · refine j_iload_n (pc := 10) hC d_P_windowOk_10 rfl ?_
      refine j_bipush (pc := 11) hC d_P_windowOk_11 (by decide) ?_
      refine j_icmp_gt (pc := 13) (tgt := 34) hC d_P_windowOk_13 (by decide) (fun w13 => ?_) (fun w13 => ?_)
      · refine j_iconst (pc := 34) hC d_P_windowOk_34 ?_
        exact j_zret (pc := 35) hC d_P_windowOk_35 (⟨rfl, Or.inr ⟨rfl, fun h => by unfold winOk at h; omega⟩⟩)
      · refine j_iload_n (pc := 16) hC d_P_windowOk_16 rfl ?_
        refine j_if_lt (pc := 17) (tgt := 34) hC d_P_windowOk_17 (by decide) (fun w17 => ?_) (fun w17 => ?_)
        · refine j_iconst (pc := 34) hC d_P_windowOk_34 ?_
          exact j_zret (pc := 35) hC d_P_windowOk_35 (⟨rfl, Or.inr ⟨rfl, fun h => by unfold winOk at h; omega⟩⟩)
        · refine j_iload_n (pc := 20) hC d_P_windowOk_20 rfl ?_
          refine j_iload_n (pc := 21) hC d_P_windowOk_21 rfl ?_
          refine j_isub (pc := 22) hC d_P_windowOk_22 ?_
          refine j_aload_n (pc := 23) hC d_P_windowOk_23 rfl ?_
          refine jp_gf_length (pc := 24) hC hG d_P_windowOk_24 (fun l24 u24 => ?_)
          refine j_icmp_lt (pc := 27) (tgt := 34) hC d_P_windowOk_27 (by decide) (fun w27 => ?_) (fun w27 => ?_)
          · refine j_iconst (pc := 34) hC d_P_windowOk_34 ?_
            exact j_zret (pc := 35) hC d_P_windowOk_35 (⟨rfl, Or.inr ⟨rfl, fun h => by unfold winOk at h; omega⟩⟩)
          · refine j_iconst (pc := 30) hC d_P_windowOk_30 ?_
            refine j_goto (pc := 31) (tgt := 35) hC d_P_windowOk_31 (by decide) ?_
            exact j_zret (pc := 35) hC d_P_windowOk_35 (⟨rfl, Or.inl ⟨rfl, by unfold winOk; omega⟩⟩)
/-- holds(id) -/
def holdsId (S : St) (id : Int) : Prop := 0 ≤ id ∧ id < S 0 1 ∧ S 1 id = 1
theorem c_P_holds (S : St) (ho : okP S) (id : Int) (i1 : -2147483648 ≤ id) (i2 : id ≤ 2147483647) : Ct PW okP y_P_holds b_P_holds 2 (some .boolean) 0 [id] S (fun z u => u = S ∧ ((z = 1 ∧ holdsId S id) ∨ (z = 0 ∧ ¬ holdsId S id))) := by
  refine Ct.of (by decide) (Nat.le_of_ble_eq_true rfl) ho (fun X hW hk hC => ?_)
  have hG : GP X := ⟨hW, hk⟩
  replace hC : CX X R_P b_P_holds 2 (some .boolean) 0 := hC
  show J X 2 (some .boolean) _ S 0 [some (.ref (gA X 0)), some (vI id)] []
  refine j_iload_n (pc := 0) hC d_P_holds_0 rfl ?_
  refine j_if_lt (pc := 1) (tgt := 25) hC d_P_holds_1 (by decide) (fun w1 => ?_) (fun w1 => ?_)
  · refine j_iconst (pc := 25) hC d_P_holds_25 ?_
    exact j_zret (pc := 26) hC d_P_holds_26 (⟨rfl, Or.inr ⟨rfl, fun h => by unfold holdsId at h; omega⟩⟩)
  · refine j_iload_n (pc := 4) hC d_P_holds_4 rfl ?_
    refine j_aload_n (pc := 5) hC d_P_holds_5 rfl ?_
    refine jp_gf_capacity (pc := 6) hC hG d_P_holds_6 (fun l6 u6 => ?_)
    refine j_icmp_ge (pc := 9) (tgt := 25) hC d_P_holds_9 (by decide) (fun w9 => ?_) (fun w9 => ?_)
    · refine j_iconst (pc := 25) hC d_P_holds_25 ?_
      exact j_zret (pc := 26) hC d_P_holds_26 (⟨rfl, Or.inr ⟨rfl, fun h => by unfold holdsId at h; omega⟩⟩)
    · refine j_aload_n (pc := 12) hC d_P_holds_12 rfl ?_
      refine jp_gf_used (pc := 13) hC hG d_P_holds_13 ?_
      refine j_iload_n (pc := 16) hC d_P_holds_16 rfl ?_
      refine jp_ld_used (pc := 17) hC hG d_P_holds_17 (fun l17 u17 => ?_)
      refine j_if_eq (pc := 18) (tgt := 25) hC d_P_holds_18 (by decide) (fun w18 => ?_) (fun w18 => ?_)
      · refine j_iconst (pc := 25) hC d_P_holds_25 ?_
        exact j_zret (pc := 26) hC d_P_holds_26 (⟨rfl, Or.inr ⟨rfl, fun h => by unfold holdsId at h; omega⟩⟩)
      · refine j_iconst (pc := 21) hC d_P_holds_21 ?_
        refine j_goto (pc := 22) (tgt := 26) hC d_P_holds_22 (by decide) ?_
        exact j_zret (pc := 26) hC d_P_holds_26 (⟨rfl, Or.inl ⟨rfl, by unfold holdsId; omega⟩⟩)
/-- freeNumber() -/
def freeNo (S : St) (z : Int) : Prop := (z = -1 ∧ ∀ i, 0 ≤ i → i < S 0 1 → S 1 i = 1) ∨ (0 ≤ z ∧ z < S 0 1 ∧ S 1 z = 0 ∧ ∀ i, 0 ≤ i → i < z → S 1 i = 1)
theorem lp_P_freeNumber (hC : CX X R_P b_P_freeNumber 2 (some .int) 0) (hG : GP X) (hp : ∀ z, freeNo S z → post z S) : ∀ (n : Nat) (k : Int), 0 ≤ k → k ≤ S 0 1 → S 0 1 - k < n → (∀ i, 0 ≤ i → i < k → S 1 i = 1) → J X 2 (some .int) post S 2 [some (.ref (gA X 0)), some (vI k)] [] := by
  intro n
  induction n with
  | zero => intro k h1 h2 h3; omega
  | succ n ih =>
    intro k h1 h2 h3 hI
    refine j_iload_n (pc := 2) hC d_P_freeNumber_2 rfl ?_
    refine j_aload_n (pc := 3) hC d_P_freeNumber_3 rfl ?_
    refine jp_gf_capacity (pc := 4) hC hG d_P_freeNumber_4 (fun l4 u4 => ?_)
    refine j_icmp_ge (pc := 7) (tgt := 27) hC d_P_freeNumber_7 (by decide) (fun w7 => ?_) (fun w7 => ?_)
    · refine j_iconst (pc := 27) hC d_P_freeNumber_27 ?_
      exact j_iret (pc := 28) hC d_P_freeNumber_28 (hp _ (Or.inl ⟨rfl, fun i a b => hI i a (by omega)⟩))
    · refine j_aload_n (pc := 10) hC d_P_freeNumber_10 rfl ?_
      refine jp_gf_used (pc := 11) hC hG d_P_freeNumber_11 ?_
      refine j_iload_n (pc := 14) hC d_P_freeNumber_14 rfl ?_
      refine jp_ld_used (pc := 15) hC hG d_P_freeNumber_15 (fun l15 u15 => ?_)
      refine j_if_ne (pc := 16) (tgt := 21) hC d_P_freeNumber_16 (by decide) (fun w16 => ?_) (fun w16 => ?_)
      · refine j_iinc_1 (pc := 21) hC d_P_freeNumber_21 (by decide) ?_
        refine j_goto (pc := 24) (tgt := 2) hC d_P_freeNumber_24 (by decide) ?_
        exact ih (k + 1) (by omega) (by omega) (by omega) (fun i a b => by rcases (show i < k ∨ i = k by omega) with q | rfl; (exact hI i a q); omega)
      · refine j_iload_n (pc := 19) hC d_P_freeNumber_19 rfl ?_
        exact j_iret (pc := 20) hC d_P_freeNumber_20 (hp _ (Or.inr ⟨h1, by omega, by omega, hI⟩))
theorem c_P_freeNumber (S : St) (ho : okP S) : Ct PW okP y_P_freeNumber b_P_freeNumber 2 (some .int) 0 [] S (fun z u => u = S ∧ freeNo S z) := by
  refine Ct.of (by decide) (Nat.le_of_ble_eq_true rfl) ho (fun X hW hk hC => ?_)
  have hG : GP X := ⟨hW, hk⟩
  replace hC : CX X R_P b_P_freeNumber 2 (some .int) 0 := hC
  show J X 2 (some .int) _ S 0 [some (.ref (gA X 0)), none] []
  have hb := ho.2.1
  refine j_iconst (pc := 0) hC d_P_freeNumber_0 ?_
  refine j_istore_1 (pc := 1) hC d_P_freeNumber_1 (by decide) ?_
  exact lp_P_freeNumber hC hG (fun z h => ⟨rfl, h⟩) 10 0 (by omega) (by omega) (by omega) (fun i a b => by omega)
/-- jobs() -/
theorem lp_P_jobs (hC : CX X R_P b_P_jobs 3 (some .int) 0) (hG : GP X) (hp : post (jb (S 1) (S 0 1).toNat) S) : ∀ (n : Nat) (k z : Int), 0 ≤ k → k ≤ S 0 1 → S 0 1 - k < n → z = jb (S 1) k.toNat → J X 3 (some .int) post S 4 [some (.ref (gA X 0)), some (vI z), some (vI k)] [] := by
  intro n
  induction n with
  | zero => intro k z h1 h2 h3; omega
  | succ n ih =>
    intro k z h1 h2 h3 hI
    have hz : 0 ≤ z := hI ▸ jb_pos _ _
    have hpw := pw_pos k
    refine j_iload_n (pc := 4) hC d_P_jobs_4 rfl ?_
    refine j_aload_n (pc := 5) hC d_P_jobs_5 rfl ?_
    refine jp_gf_capacity (pc := 6) hC hG d_P_jobs_6 (fun l6 u6 => ?_)
    refine j_icmp_ge (pc := 9) (tgt := 33) hC d_P_jobs_9 (by decide) (fun w9 => ?_) (fun w9 => ?_)
    · refine j_iload_n (pc := 33) hC d_P_jobs_33 rfl ?_
      exact j_iret (pc := 34) hC d_P_jobs_34 (by rw [hI, show k = S 0 1 by omega]; exact hp)
    · refine j_aload_n (pc := 12) hC d_P_jobs_12 rfl ?_
      refine jp_gf_used (pc := 13) hC hG d_P_jobs_13 ?_
      refine j_iload_n (pc := 16) hC d_P_jobs_16 rfl ?_
      refine jp_ld_used (pc := 17) hC hG d_P_jobs_17 (fun l17 u17 => ?_)
      refine j_if_eq (pc := 18) (tgt := 27) hC d_P_jobs_18 (by decide) (fun w18 => ?_) (fun w18 => ?_)
      · refine j_iinc_2 (pc := 27) hC d_P_jobs_27 (by decide) ?_
        refine j_goto (pc := 30) (tgt := 4) hC d_P_jobs_30 (by decide) ?_
        exact ih (k + 1) z (by omega) (by omega) (by omega) (by rw [jb_0 h1 (by omega)]; exact hI)
      · refine j_iload_n (pc := 21) hC d_P_jobs_21 rfl ?_
        refine j_iconst (pc := 22) hC d_P_jobs_22 ?_
        refine j_iload_n (pc := 23) hC d_P_jobs_23 rfl ?_
        refine j_shl1 (pc := 24) hC d_P_jobs_24 ?_
        refine j_ior (pc := 25) hC d_P_jobs_25 ?_
        refine j_istore_1 (pc := 26) hC d_P_jobs_26 (by decide) ?_
        refine j_iinc_2 (pc := 27) hC d_P_jobs_27 (by decide) ?_
        refine j_goto (pc := 30) (tgt := 4) hC d_P_jobs_30 (by decide) ?_
        exact ih (k + 1) _ (by omega) (by omega) (by omega) (by rw [jb_1 h1 (by omega), hI])
theorem c_P_jobs (S : St) (ho : okP S) : Ct PW okP y_P_jobs b_P_jobs 3 (some .int) 0 [] S (fun z u => u = S ∧ z = jb (S 1) (S 0 1).toNat) := by
  refine Ct.of (by decide) (Nat.le_of_ble_eq_true rfl) ho (fun X hW hk hC => ?_)
  have hG : GP X := ⟨hW, hk⟩
  replace hC : CX X R_P b_P_jobs 3 (some .int) 0 := hC
  show J X 3 (some .int) _ S 0 [some (.ref (gA X 0)), none, none] []
  have hb := ho.2.1
  refine j_iconst (pc := 0) hC d_P_jobs_0 ?_
  refine j_istore_1 (pc := 1) hC d_P_jobs_1 (by decide) ?_
  refine j_iconst (pc := 2) hC d_P_jobs_2 ?_
  refine j_istore_2 (pc := 3) hC d_P_jobs_3 (by decide) ?_
  exact lp_P_jobs hC hG ⟨rfl, rfl⟩ 10 0 0 (by omega) (by omega) (by omega) rfl
/-- release(id), deadline(id) -/
theorem c_P_release (S : St) (ho : okP S) (id : Int) (i1 : -2147483648 ≤ id) (i2 : id ≤ 2147483647) : Ct PW okP y_P_release b_P_release 2 (some .int) 1 [id] S (fun z u => u = S ∧ ((holdsId S id ∧ z = S 2 id) ∨ (¬ holdsId S id ∧ z = -1))) := by
  refine Ct.of (by decide) (Nat.le_of_ble_eq_true rfl) ho (fun X hW hk hC => ?_)
  have hG : GP X := ⟨hW, hk⟩
  replace hC : CX X R_P b_P_release 2 (some .int) 1 := hC
  show J X 2 (some .int) _ S 0 [some (.ref (gA X 0)), some (vI id)] []
  have hb := ho.2.1
  refine j_aload_n (pc := 0) hC d_P_release_0 rfl ?_
  refine j_iload_n (pc := 1) hC d_P_release_1 rfl ?_
  refine jp_calli1 (pc := 2) hC hG (cw_P_78 (by decide)) rfl d_P_release_2 (c_P_holds S ho id i1 i2) (fun z S2 p o2 => ?_)
  refine J.eqs p.1 ?_
  replace p := p.2
  unfold holdsId at p
  refine j_if_eq (pc := 5) (tgt := 17) hC d_P_release_5 (by decide) (fun w5 => ?_) (fun w5 => ?_)
  · refine j_iconst (pc := 17) hC d_P_release_17 ?_
    exact j_iret (pc := 18) hC d_P_release_18 (⟨rfl, Or.inr ⟨by unfold holdsId; omega, rfl⟩⟩)
  · refine j_aload_n (pc := 8) hC d_P_release_8 rfl ?_
    refine jp_gf_from (pc := 9) hC hG d_P_release_9 ?_
    refine j_iload_n (pc := 12) hC d_P_release_12 rfl ?_
    refine jp_ld_from (pc := 13) hC hG d_P_release_13 (fun l13 u13 => ?_)
    refine j_goto (pc := 14) (tgt := 18) hC d_P_release_14 (by decide) ?_
    exact j_iret (pc := 18) hC d_P_release_18 (⟨rfl, Or.inl ⟨by unfold holdsId; omega, rfl⟩⟩)
theorem c_P_deadline (S : St) (ho : okP S) (id : Int) (i1 : -2147483648 ≤ id) (i2 : id ≤ 2147483647) : Ct PW okP y_P_deadline b_P_deadline 2 (some .int) 1 [id] S (fun z u => u = S ∧ ((holdsId S id ∧ z = S 3 id) ∨ (¬ holdsId S id ∧ z = -1))) := by
  refine Ct.of (by decide) (Nat.le_of_ble_eq_true rfl) ho (fun X hW hk hC => ?_)
  have hG : GP X := ⟨hW, hk⟩
  replace hC : CX X R_P b_P_deadline 2 (some .int) 1 := hC
  show J X 2 (some .int) _ S 0 [some (.ref (gA X 0)), some (vI id)] []
  have hb := ho.2.1
  refine j_aload_n (pc := 0) hC d_P_deadline_0 rfl ?_
  refine j_iload_n (pc := 1) hC d_P_deadline_1 rfl ?_
  refine jp_calli1 (pc := 2) hC hG (cw_P_78 (by decide)) rfl d_P_deadline_2 (c_P_holds S ho id i1 i2) (fun z S2 p o2 => ?_)
  refine J.eqs p.1 ?_
  replace p := p.2
  unfold holdsId at p
  refine j_if_eq (pc := 5) (tgt := 17) hC d_P_deadline_5 (by decide) (fun w5 => ?_) (fun w5 => ?_)
  · refine j_iconst (pc := 17) hC d_P_deadline_17 ?_
    exact j_iret (pc := 18) hC d_P_deadline_18 (⟨rfl, Or.inr ⟨by unfold holdsId; omega, rfl⟩⟩)
  · refine j_aload_n (pc := 8) hC d_P_deadline_8 rfl ?_
    refine jp_gf_until (pc := 9) hC hG d_P_deadline_9 ?_
    refine j_iload_n (pc := 12) hC d_P_deadline_12 rfl ?_
    refine jp_ld_until (pc := 13) hC hG d_P_deadline_13 (fun l13 u13 => ?_)
    refine j_goto (pc := 14) (tgt := 18) hC d_P_deadline_14 (by decide) ?_
    exact j_iret (pc := 18) hC d_P_deadline_18 (⟨rfl, Or.inl ⟨by unfold holdsId; omega, rfl⟩⟩)
/-- ask(r, d) -/
def askS (S : St) (r d : Int) : St := s2 (s2 (s2 S 7 (S 0 2) r) 8 (S 0 2) d) 0 2 (S 0 2 + 1)
theorem c_P_ask (S : St) (ho : okP S) (r d : Int) (r1 : -128 ≤ r) (r2 : r ≤ 127) (d1 : -128 ≤ d) (d2 : d ≤ 127) (hn : S 0 2 < 8) : Ct PW okP y_P_ask b_P_ask 3 none 0 [r, d] S (fun _ u => u = askS S r d) := by
  refine Ct.of (by decide) (Nat.le_of_ble_eq_true rfl) ho (fun X hW hk hC => ?_)
  have hG : GP X := ⟨hW, hk⟩
  replace hC : CX X R_P b_P_ask 3 none 0 := hC
  show J X 3 none _ S 0 [some (.ref (gA X 0)), some (vI r), some (vI d)] []
  have hb := ho.2.2.1
  refine j_aload_n (pc := 0) hC d_P_ask_0 rfl ?_
  refine jp_gf_asked (pc := 1) hC hG d_P_ask_1 (fun l1 u1 => ?_)
  refine j_bipush (pc := 4) hC d_P_ask_4 (by decide) ?_
  refine j_icmp_ge (pc := 6) (tgt := 41) hC d_P_ask_6 (by decide) (fun w6 => ?_) (fun w6 => ?_)
  · exact j_vret (pc := 41) hC d_P_ask_41 (by omega)
  · refine j_aload_n (pc := 9) hC d_P_ask_9 rfl ?_
    refine jp_gf_askFrom (pc := 10) hC hG d_P_ask_10 ?_
    refine j_aload_n (pc := 13) hC d_P_ask_13 rfl ?_
    refine jp_gf_asked (pc := 14) hC hG d_P_ask_14 (fun l14 u14 => ?_)
    refine j_iload_n (pc := 17) hC d_P_ask_17 rfl ?_
    refine j_i2b (pc := 18) hC d_P_ask_18 (k := ?_)
    refine jp_st_askFrom (pc := 19) hC hG d_P_ask_19 ?_
    refine j_aload_n (pc := 20) hC d_P_ask_20 rfl ?_
    refine jp_gf_askUntil (pc := 21) hC hG d_P_ask_21 ?_
    refine j_aload_n (pc := 24) hC d_P_ask_24 rfl ?_
    refine jp_gf_asked (pc := 25) hC hG d_P_ask_25 (fun l25 u25 => ?_)
    refine j_iload_n (pc := 28) hC d_P_ask_28 rfl ?_
    refine j_i2b (pc := 29) hC d_P_ask_29 (k := ?_)
    refine jp_st_askUntil (pc := 30) (i := S 0 2) hC hG d_P_ask_30 ?_
    refine j_aload_n (pc := 31) hC d_P_ask_31 rfl ?_
    refine j_dup (pc := 32) hC d_P_ask_32 ?_
    refine jp_gf_asked (pc := 33) hC hG d_P_ask_33 (fun l33 u33 => ?_)
    refine j_iconst (pc := 36) hC d_P_ask_36 ?_
    refine j_iadd (pc := 37) hC d_P_ask_37 ?_
    refine jp_pf_asked (pc := 38) (v := S 0 2 + 1) hC hG d_P_ask_38 ?_
    exact j_vret (pc := 41) hC d_P_ask_41 (rfl)
/-- raise(t) -/
def raiseI (S U : St) (t k : Int) : Prop := (∀ b j, b ≠ 7 → U b j = S b j) ∧ ∀ a, U 7 a = if 0 ≤ a ∧ a < k then max (S 7 a) t else S 7 a
theorem lp_P_raise {t : Int} (hC : CX X R_P b_P_raise 3 none 0) (hG : GP X) (t1 : -128 ≤ t) (t2 : t ≤ 127) (hp : ∀ U, raiseI S U t (S 0 2) → post 0 U) : ∀ (n : Nat) (k : Int) (U : St), 0 ≤ k → k ≤ S 0 2 → S 0 2 - k < n → raiseI S U t k → J X 3 none post U 2 [some (.ref (gA X 0)), some (vI t), some (vI k)] [] := by
  intro n
  induction n with
  | zero => intro k U h1 h2 h3; omega
  | succ n ih =>
    intro k U h1 h2 h3 hI
    have e2 := hI.1 0 2 (by decide)
    have e7 := hI.2 k
    rw [if_neg (by omega)] at e7
    refine j_iload_n (pc := 2) hC d_P_raise_2 rfl ?_
    refine j_aload_n (pc := 3) hC d_P_raise_3 rfl ?_
    refine jp_gf_asked (pc := 4) hC hG d_P_raise_4 (fun l4 u4 => ?_)
    refine j_icmp_ge (pc := 7) (tgt := 34) hC d_P_raise_7 (by decide) (fun w7 => ?_) (fun w7 => ?_)
    · exact j_vret (pc := 34) hC d_P_raise_34 (hp U (by rw [show S 0 2 = k by omega]; exact hI))
    · refine j_aload_n (pc := 10) hC d_P_raise_10 rfl ?_
      refine jp_gf_askFrom (pc := 11) hC hG d_P_raise_11 ?_
      refine j_iload_n (pc := 14) hC d_P_raise_14 rfl ?_
      refine jp_ld_askFrom (pc := 15) hC hG d_P_raise_15 (fun l15 u15 => ?_)
      refine j_iload_n (pc := 16) hC d_P_raise_16 rfl ?_
      refine j_icmp_ge (pc := 17) (tgt := 28) hC d_P_raise_17 (by decide) (fun w17 => ?_) (fun w17 => ?_)
      · refine j_iinc_2 (pc := 28) hC d_P_raise_28 (by decide) ?_
        refine j_goto (pc := 31) (tgt := 2) hC d_P_raise_31 (by decide) ?_
        exact ih (k + 1) _ (by omega) (by omega) (by omega) ⟨hI.1, fun a => by
          rw [hI.2 a]
          by_cases q : a = k
          · subst q; rw [if_neg (by omega), if_pos (by omega)]; omega
          · by_cases q2 : 0 ≤ a ∧ a < k
            · rw [if_pos q2, if_pos (by omega)]
            · rw [if_neg q2, if_neg (by omega)]⟩
      · refine j_aload_n (pc := 20) hC d_P_raise_20 rfl ?_
        refine jp_gf_askFrom (pc := 21) hC hG d_P_raise_21 ?_
        refine j_iload_n (pc := 24) hC d_P_raise_24 rfl ?_
        refine j_iload_n (pc := 25) hC d_P_raise_25 rfl ?_
        refine j_i2b (pc := 26) hC d_P_raise_26 (k := ?_)
        refine jp_st_askFrom (pc := 27) hC hG d_P_raise_27 ?_
        refine j_iinc_2 (pc := 28) hC d_P_raise_28 (by decide) ?_
        refine j_goto (pc := 31) (tgt := 2) hC d_P_raise_31 (by decide) ?_
        exact ih (k + 1) _ (by omega) (by omega) (by omega) ⟨fun b j q => by rw [s2_ne (fun q2 => q q2.1)]; exact hI.1 b j q, fun a => by
          by_cases q : a = k
          · subst q; rw [s2_eq, if_pos (by omega)]; omega
          · rw [s2_ne (fun q2 => q q2.2), hI.2 a]
            by_cases q2 : 0 ≤ a ∧ a < k
            · rw [if_pos q2, if_pos (by omega)]
            · rw [if_neg q2, if_neg (by omega)]⟩
theorem c_P_raise (S : St) (ho : okP S) (t : Int) (t1 : -128 ≤ t) (t2 : t ≤ 127) : Ct PW okP y_P_raise b_P_raise 3 none 0 [t] S (fun _ u => raiseI S u t (S 0 2)) := by
  refine Ct.of (by decide) (Nat.le_of_ble_eq_true rfl) ho (fun X hW hk hC => ?_)
  have hG : GP X := ⟨hW, hk⟩
  replace hC : CX X R_P b_P_raise 3 none 0 := hC
  show J X 3 none _ S 0 [some (.ref (gA X 0)), some (vI t), none] []
  have hb := ho.2.2.1
  refine j_iconst (pc := 0) hC d_P_raise_0 ?_
  refine j_istore_2 (pc := 1) hC d_P_raise_1 (by decide) ?_
  exact lp_P_raise hC hG t1 t2 (fun U h => h) 10 0 S (by omega) (by omega) (by omega) ⟨fun _ _ _ => rfl, fun a => by rw [if_neg (by omega)]⟩
/-- shutBetween(low, high) -/
def shutB (S U : St) (lo hi : Int) : Prop := (∀ b j, b ≠ 10 → U b j = S b j) ∧ ∀ t, U 10 t = if 0 ≤ t ∧ lo < t ∧ t < hi ∧ t < 48 then 1 else S 10 t
theorem lp_P_shutBetween {low high : Int} (hC : CX X R_P b_P_shutBetween 4 none 0) (hG : GP X) (a1 : -1000 ≤ low) (a2 : low ≤ 1000) (b1 : -1000 ≤ high) (b2 : high ≤ 1000) (hp : ∀ U, shutB S U low high → post 0 U) : ∀ (n : Nat) (t : Int) (U : St), 0 ≤ t → low < t → t ≤ 1001 → (high - t < n ∨ 48 - t < n) → 1 ≤ n → (t ≤ low + 1 ∨ t = 0 ∨ t ≤ high) → shutB S U low (min high t) → J X 4 none post U 12 [some (.ref (gA X 0)), some (vI low), some (vI high), some (vI t)] [] := by
  intro n
  induction n with
  | zero => intro t U h1 h2 h3 h4 h5; omega
  | succ n ih =>
    intro t U h1 h2 h3 h4 h5 h6 hI
    refine j_iload_n (pc := 12) hC d_P_shutBetween_12 rfl ?_
    refine j_iload_n (pc := 13) hC d_P_shutBetween_13 rfl ?_
    refine j_icmp_ge (pc := 14) (tgt := 36) hC d_P_shutBetween_14 (by decide) (fun w14 => ?_) (fun w14 => ?_)
    · exact j_vret (pc := 36) hC d_P_shutBetween_36 (hp U ⟨hI.1, fun a => by
            rw [hI.2 a]
            by_cases q2 : 0 ≤ a ∧ low < a ∧ a < min high t ∧ a < 48
            · rw [if_pos q2, if_pos (by omega)]
            · rw [if_neg q2, if_neg (by omega)]⟩)
    · refine j_iload_n (pc := 17) hC d_P_shutBetween_17 rfl ?_
      refine j_bipush (pc := 18) hC d_P_shutBetween_18 (by decide) ?_
      refine j_icmp_ge (pc := 20) (tgt := 36) hC d_P_shutBetween_20 (by decide) (fun w20 => ?_) (fun w20 => ?_)
      · exact j_vret (pc := 36) hC d_P_shutBetween_36 (hp U ⟨hI.1, fun a => by
              rw [hI.2 a]
              by_cases q2 : 0 ≤ a ∧ low < a ∧ a < min high t ∧ a < 48
              · rw [if_pos q2, if_pos (by omega)]
              · rw [if_neg q2, if_neg (by omega)]⟩)
      · refine j_aload_n (pc := 23) hC d_P_shutBetween_23 rfl ?_
        refine jp_gf_shut (pc := 24) hC hG d_P_shutBetween_24 ?_
        refine j_iload_n (pc := 27) hC d_P_shutBetween_27 rfl ?_
        refine j_iconst (pc := 28) hC d_P_shutBetween_28 ?_
        refine jp_st_shut (pc := 29) hC hG d_P_shutBetween_29 ?_
        refine j_iinc_3 (pc := 30) hC d_P_shutBetween_30 (by decide) ?_
        refine j_goto (pc := 33) (tgt := 12) hC d_P_shutBetween_33 (by decide) ?_
        refine ih (t + 1) _ (by omega) (by omega) (by omega) (by omega) (by omega) (by omega) ⟨fun b j q => by rw [s2_ne (fun q2 => q q2.1)]; exact hI.1 b j q, fun a => ?_⟩
        by_cases q : a = t
        · subst q; rw [s2_eq, if_pos (by omega)]
        · rw [s2_ne (fun q2 => q q2.2), hI.2 a]
          by_cases q2 : 0 ≤ a ∧ low < a ∧ a < min high t ∧ a < 48
          · rw [if_pos q2, if_pos (by omega)]
          · rw [if_neg q2, if_neg (by omega)]
theorem c_P_shutBetween (S : St) (ho : okP S) (low high : Int) (a1 : -1000 ≤ low) (a2 : low ≤ 1000) (b1 : -1000 ≤ high) (b2 : high ≤ 1000) : Ct PW okP y_P_shutBetween b_P_shutBetween 4 none 0 [low, high] S (fun _ u => shutB S u low high) := by
  refine Ct.of (by decide) (Nat.le_of_ble_eq_true rfl) ho (fun X hW hk hC => ?_)
  have hG : GP X := ⟨hW, hk⟩
  replace hC : CX X R_P b_P_shutBetween 4 none 0 := hC
  show J X 4 none _ S 0 [some (.ref (gA X 0)), some (vI low), some (vI high), none] []
  refine j_iload_n (pc := 0) hC d_P_shutBetween_0 rfl ?_
  refine j_if_ge (pc := 1) (tgt := 8) hC d_P_shutBetween_1 (by decide) (fun w1 => ?_) (fun w1 => ?_)
  · refine j_iload_n (pc := 8) hC d_P_shutBetween_8 rfl ?_
    refine j_iconst (pc := 9) hC d_P_shutBetween_9 ?_
    refine j_iadd (pc := 10) hC d_P_shutBetween_10 ?_
    refine j_istore_3 (pc := 11) hC d_P_shutBetween_11 (by decide) ?_
    exact lp_P_shutBetween hC hG a1 a2 b1 b2 (fun U h => h) 3000 _ S (by omega) (by omega) (by omega) (by omega) (by omega) (by omega) ⟨fun _ _ _ => rfl, fun a => by rw [if_neg (by omega)]⟩
  · refine j_iconst (pc := 4) hC d_P_shutBetween_4 ?_
    refine j_goto (pc := 5) (tgt := 11) hC d_P_shutBetween_5 (by decide) ?_
    refine j_istore_3 (pc := 11) hC d_P_shutBetween_11 (by decide) ?_
    exact lp_P_shutBetween hC hG a1 a2 b1 b2 (fun U h => h) 3000 _ S (by omega) (by omega) (by omega) (by omega) (by omega) (by omega) ⟨fun _ _ _ => rfl, fun a => by rw [if_neg (by omega)]⟩
/-- greatestReleaseBelow(above) -/
def grbI (S : St) (above k z : Int) : Prop := -1 ≤ z ∧ z ≤ 127 ∧ (∀ a, 0 ≤ a → a < k → S 7 a < above → S 7 a ≤ z) ∧ (z = -1 ∨ ∃ a, 0 ≤ a ∧ a < k ∧ S 7 a = z ∧ z < above)
theorem grb_skip {above k z : Int} (h : grbI S above k z) (hs : S 7 k < above → S 7 k ≤ z) : grbI S above (k + 1) z :=
  ⟨h.1, h.2.1, fun a a1 a2 a3 => by
    rcases (show a < k ∨ a = k by omega) with q | rfl
    · exact h.2.2.1 a a1 q a3
    · exact hs a3, by
    rcases h.2.2.2 with q | ⟨a, q1, q2, q3⟩
    · exact Or.inl q
    · exact Or.inr ⟨a, q1, by omega, q3⟩⟩
theorem grb_take {above k z : Int} (h : grbI S above k z) (h0 : 0 ≤ k) (h1 : S 7 k < above) (h2 : z < S 7 k) (h3 : S 7 k ≤ 127) : grbI S above (k + 1) (S 7 k) :=
  ⟨by have := h.1; omega, h3, fun a a1 a2 a3 => by
    rcases (show a < k ∨ a = k by omega) with q | rfl
    · have := h.2.2.1 a a1 q a3; omega
    · omega, Or.inr ⟨k, h0, by omega, rfl, h1⟩⟩
theorem lp_P_grb {above : Int} (hC : CX X R_P b_P_greatestReleaseBelow 4 (some .int) 0) (hG : GP X) (a1 : -1000 ≤ above) (a2 : above ≤ 1000) (hp : ∀ z, grbI S above (S 0 2) z → post z S) : ∀ (n : Nat) (k z : Int), 0 ≤ k → k ≤ S 0 2 → S 0 2 - k < n → grbI S above k z → J X 4 (some .int) post S 4 [some (.ref (gA X 0)), some (vI above), some (vI z), some (vI k)] [] := by
  intro n
  induction n with
  | zero => intro k z h1 h2 h3; omega
  | succ n ih =>
    intro k z h1 h2 h3 hI
    have hz1 := hI.1
    have hz2 := hI.2.1
    refine j_iload_n (pc := 4) hC d_P_greatestReleaseBelow_4 rfl ?_
    refine j_aload_n (pc := 5) hC d_P_greatestReleaseBelow_5 rfl ?_
    refine jp_gf_asked (pc := 6) hC hG d_P_greatestReleaseBelow_6 (fun l6 u6 => ?_)
    refine j_icmp_ge (pc := 9) (tgt := 45) hC d_P_greatestReleaseBelow_9 (by decide) (fun w9 => ?_) (fun w9 => ?_)
    · refine j_iload_n (pc := 45) hC d_P_greatestReleaseBelow_45 rfl ?_
      exact j_iret (pc := 46) hC d_P_greatestReleaseBelow_46 (hp z (by rw [show S 0 2 = k by omega]; exact hI))
    · refine j_aload_n (pc := 12) hC d_P_greatestReleaseBelow_12 rfl ?_
      refine jp_gf_askFrom (pc := 13) hC hG d_P_greatestReleaseBelow_13 ?_
      refine j_iload_n (pc := 16) hC d_P_greatestReleaseBelow_16 rfl ?_
      refine jp_ld_askFrom (pc := 17) hC hG d_P_greatestReleaseBelow_17 (fun l17 u17 => ?_)
      refine j_iload_n (pc := 18) hC d_P_greatestReleaseBelow_18 rfl ?_
      refine j_icmp_ge (pc := 19) (tgt := 39) hC d_P_greatestReleaseBelow_19 (by decide) (fun w19 => ?_) (fun w19 => ?_)
      · refine j_iinc_3 (pc := 39) hC d_P_greatestReleaseBelow_39 (by decide) ?_
        refine j_goto (pc := 42) (tgt := 4) hC d_P_greatestReleaseBelow_42 (by decide) ?_
        exact ih (k + 1) z (by omega) (by omega) (by omega) (grb_skip hI (by omega))
      · refine j_aload_n (pc := 22) hC d_P_greatestReleaseBelow_22 rfl ?_
        refine jp_gf_askFrom (pc := 23) hC hG d_P_greatestReleaseBelow_23 ?_
        refine j_iload_n (pc := 26) hC d_P_greatestReleaseBelow_26 rfl ?_
        refine jp_ld_askFrom (pc := 27) hC hG d_P_greatestReleaseBelow_27 (fun l27 u27 => ?_)
        refine j_iload_n (pc := 28) hC d_P_greatestReleaseBelow_28 rfl ?_
        refine j_icmp_le (pc := 29) (tgt := 39) hC d_P_greatestReleaseBelow_29 (by decide) (fun w29 => ?_) (fun w29 => ?_)
        · refine j_iinc_3 (pc := 39) hC d_P_greatestReleaseBelow_39 (by decide) ?_
          refine j_goto (pc := 42) (tgt := 4) hC d_P_greatestReleaseBelow_42 (by decide) ?_
          exact ih (k + 1) z (by omega) (by omega) (by omega) (grb_skip hI (by omega))
        · refine j_aload_n (pc := 32) hC d_P_greatestReleaseBelow_32 rfl ?_
          refine jp_gf_askFrom (pc := 33) hC hG d_P_greatestReleaseBelow_33 ?_
          refine j_iload_n (pc := 36) hC d_P_greatestReleaseBelow_36 rfl ?_
          refine jp_ld_askFrom (pc := 37) hC hG d_P_greatestReleaseBelow_37 (fun l37 u37 => ?_)
          refine j_istore_2 (pc := 38) hC d_P_greatestReleaseBelow_38 (by decide) ?_
          refine j_iinc_3 (pc := 39) hC d_P_greatestReleaseBelow_39 (by decide) ?_
          refine j_goto (pc := 42) (tgt := 4) hC d_P_greatestReleaseBelow_42 (by decide) ?_
          exact ih (k + 1) _ (by omega) (by omega) (by omega) (grb_take hI h1 (by omega) (by omega) (by omega))
theorem c_P_greatestReleaseBelow (S : St) (ho : okP S) (above : Int) (a1 : -1000 ≤ above) (a2 : above ≤ 1000) : Ct PW okP y_P_greatestReleaseBelow b_P_greatestReleaseBelow 4 (some .int) 0 [above] S (fun z u => u = S ∧ grbI S above (S 0 2) z) := by
  refine Ct.of (by decide) (Nat.le_of_ble_eq_true rfl) ho (fun X hW hk hC => ?_)
  have hG : GP X := ⟨hW, hk⟩
  replace hC : CX X R_P b_P_greatestReleaseBelow 4 (some .int) 0 := hC
  show J X 4 (some .int) _ S 0 [some (.ref (gA X 0)), some (vI above), none, none] []
  have hb := ho.2.2.1
  refine j_iconst (pc := 0) hC d_P_greatestReleaseBelow_0 ?_
  refine j_istore_2 (pc := 1) hC d_P_greatestReleaseBelow_1 (by decide) ?_
  refine j_iconst (pc := 2) hC d_P_greatestReleaseBelow_2 ?_
  refine j_istore_3 (pc := 3) hC d_P_greatestReleaseBelow_3 (by decide) ?_
  exact lp_P_grb hC hG a1 a2 (fun z h => ⟨rfl, h⟩) 10 0 _ (by omega) (by omega) (by omega) ⟨by omega, by omega, fun a _ _ => by omega, Or.inl rfl⟩
/-- countWithin(r, d) -/
def cntW (S : St) (r d : Int) : Nat → Int
  | 0 => 0
  | n + 1 => if r ≤ S 7 n ∧ S 8 n ≤ d then cntW S r d n + 1 else cntW S r d n
theorem cntW_bd (S : St) (r d : Int) : ∀ n : Nat, 0 ≤ cntW S r d n ∧ cntW S r d n ≤ n
  | 0 => by simp [cntW]
  | n + 1 => by
    have h := cntW_bd S r d n
    unfold cntW
    split <;> omega
theorem cntW_1 {r d k : Int} (h : 0 ≤ k) (q : r ≤ S 7 k ∧ S 8 k ≤ d) : cntW S r d (k + 1).toNat = cntW S r d k.toNat + 1 := by
  rw [show (k + 1).toNat = k.toNat + 1 by omega, cntW, Int.toNat_of_nonneg h, if_pos q]
theorem cntW_0 {r d k : Int} (h : 0 ≤ k) (q : ¬ (r ≤ S 7 k ∧ S 8 k ≤ d)) : cntW S r d (k + 1).toNat = cntW S r d k.toNat := by
  rw [show (k + 1).toNat = k.toNat + 1 by omega, cntW, Int.toNat_of_nonneg h, if_neg q]
theorem lp_P_count {r d : Int} (hC : CX X R_P b_P_countWithin 5 (some .int) 0) (hG : GP X) (a1 : -1000 ≤ r) (a2 : r ≤ 1000) (b1 : -1000 ≤ d) (b2 : d ≤ 1000) (hp : post (cntW S r d (S 0 2).toNat) S) : ∀ (n : Nat) (k z : Int), 0 ≤ k → k ≤ S 0 2 → S 0 2 - k < n → z = cntW S r d k.toNat → J X 5 (some .int) post S 5 [some (.ref (gA X 0)), some (vI r), some (vI d), some (vI z), some (vI k)] [] := by
  intro n
  induction n with
  | zero => intro k z h1 h2 h3; omega
  | succ n ih =>
    intro k z h1 h2 h3 hI
    refine j_iload (pc := 5) hC d_P_countWithin_5 rfl ?_
    refine j_aload_n (pc := 7) hC d_P_countWithin_7 rfl ?_
    refine jp_gf_asked (pc := 8) hC hG d_P_countWithin_8 (fun l8 u8 => ?_)
    refine j_icmp_ge (pc := 11) (tgt := 45) hC d_P_countWithin_11 (by decide) (fun w11 => ?_) (fun w11 => ?_)
    · refine j_iload_n (pc := 45) hC d_P_countWithin_45 rfl ?_
      exact j_iret (pc := 46) hC d_P_countWithin_46 (by rw [hI, show k = S 0 2 by omega]; exact hp)
    · refine j_aload_n (pc := 14) hC d_P_countWithin_14 rfl ?_
      refine jp_gf_askFrom (pc := 15) hC hG d_P_countWithin_15 ?_
      refine j_iload (pc := 18) hC d_P_countWithin_18 rfl ?_
      refine jp_ld_askFrom (pc := 20) hC hG d_P_countWithin_20 (fun l20 u20 => ?_)
      refine j_iload_n (pc := 21) hC d_P_countWithin_21 rfl ?_
      refine j_icmp_lt (pc := 22) (tgt := 39) hC d_P_countWithin_22 (by decide) (fun w22 => ?_) (fun w22 => ?_)
      · refine j_iinc_4 (pc := 39) hC d_P_countWithin_39 (by decide) ?_
        refine j_goto (pc := 42) (tgt := 5) hC d_P_countWithin_42 (by decide) ?_
        exact ih (k + 1) _ (by omega) (by omega) (by omega) (by rw [cntW_0 h1 (by omega)]; exact hI)
      · refine j_aload_n (pc := 25) hC d_P_countWithin_25 rfl ?_
        refine jp_gf_askUntil (pc := 26) hC hG d_P_countWithin_26 ?_
        refine j_iload (pc := 29) hC d_P_countWithin_29 rfl ?_
        refine jp_ld_askUntil (pc := 31) hC hG d_P_countWithin_31 (fun l31 u31 => ?_)
        refine j_iload_n (pc := 32) hC d_P_countWithin_32 rfl ?_
        refine j_icmp_gt (pc := 33) (tgt := 39) hC d_P_countWithin_33 (by decide) (fun w33 => ?_) (fun w33 => ?_)
        · refine j_iinc_4 (pc := 39) hC d_P_countWithin_39 (by decide) ?_
          refine j_goto (pc := 42) (tgt := 5) hC d_P_countWithin_42 (by decide) ?_
          exact ih (k + 1) _ (by omega) (by omega) (by omega) (by rw [cntW_0 h1 (by omega)]; exact hI)
        · refine j_iinc_3 (pc := 36) hC d_P_countWithin_36 (by decide) ?_
          refine j_iinc_4 (pc := 39) hC d_P_countWithin_39 (by decide) ?_
          refine j_goto (pc := 42) (tgt := 5) hC d_P_countWithin_42 (by decide) ?_
          exact ih (k + 1) _ (by omega) (by omega) (by omega) (by rw [cntW_1 h1 (by omega), hI])
theorem c_P_countWithin (S : St) (ho : okP S) (r d : Int) (a1 : -1000 ≤ r) (a2 : r ≤ 1000) (b1 : -1000 ≤ d) (b2 : d ≤ 1000) : Ct PW okP y_P_countWithin b_P_countWithin 5 (some .int) 0 [r, d] S (fun z u => u = S ∧ z = cntW S r d (S 0 2).toNat) := by
  refine Ct.of (by decide) (Nat.le_of_ble_eq_true rfl) ho (fun X hW hk hC => ?_)
  have hG : GP X := ⟨hW, hk⟩
  replace hC : CX X R_P b_P_countWithin 5 (some .int) 0 := hC
  show J X 5 (some .int) _ S 0 [some (.ref (gA X 0)), some (vI r), some (vI d), none, none] []
  have hb := ho.2.2.1
  refine j_iconst (pc := 0) hC d_P_countWithin_0 ?_
  refine j_istore_3 (pc := 1) hC d_P_countWithin_1 (by decide) ?_
  refine j_iconst (pc := 2) hC d_P_countWithin_2 ?_
  refine j_istore_4 (pc := 3) hC d_P_countWithin_3 (by decide) ?_
  exact lp_P_count hC hG a1 a2 b1 b2 ⟨rfl, rfl⟩ 10 0 0 (by omega) (by omega) (by omega) rfl
/-- openAtOrBefore(t) -/
def oabN (f : Int → Int) : Nat → Int
  | 0 => -1
  | k + 1 => if f k = 0 then k else oabN f k
def oab (f : Int → Int) (t : Int) : Int := oabN f (t + 1).toNat
theorem oab_neg {f : Int → Int} {t : Int} (h : t < 0) : oab f t = -1 := by
  unfold oab
  rw [show (t + 1).toNat = 0 by omega]
  rfl
theorem oab_0 {f : Int → Int} {t : Int} (h : 0 ≤ t) (q : f t = 0) : oab f t = t := by
  unfold oab
  rw [show (t + 1).toNat = t.toNat + 1 by omega, oabN, Int.toNat_of_nonneg h, if_pos q]
theorem oab_1 {f : Int → Int} {t : Int} (h : 0 ≤ t) (q : ¬ f t = 0) : oab f t = oab f (t - 1) := by
  unfold oab
  rw [show (t + 1).toNat = t.toNat + 1 by omega, oabN, Int.toNat_of_nonneg h, if_neg q, show (t - 1 + 1).toNat = t.toNat by omega]
theorem lp_P_oab {t : Int} (hC : CX X R_P b_P_openAtOrBefore 3 (some .int) 0) (hG : GP X) (hp : post (oab (S 10) t) S) : ∀ (n : Nat) (q : Int), -1000 ≤ q → q ≤ 47 → q + 1 < n → 1 ≤ n → oab (S 10) q = oab (S 10) t → J X 3 (some .int) post S 2 [some (.ref (gA X 0)), some (vI t), some (vI q)] [] := by
  intro n
  induction n with
  | zero => intro q h1 h2 h3 h4; omega
  | succ n ih =>
    intro q h1 h2 h3 h4 hI
    refine j_iload_n (pc := 2) hC d_P_openAtOrBefore_2 rfl ?_
    refine j_if_lt (pc := 3) (tgt := 21) hC d_P_openAtOrBefore_3 (by decide) (fun w3 => ?_) (fun w3 => ?_)
    · refine j_iload_n (pc := 21) hC d_P_openAtOrBefore_21 rfl ?_
      refine j_if_ge (pc := 22) (tgt := 29) hC d_P_openAtOrBefore_22 (by decide) (fun w22 => ?_) (fun w22 => ?_)
      · refine j_iload_n (pc := 29) hC d_P_openAtOrBefore_29 rfl ?_
        exact j_iret (pc := 30) hC d_P_openAtOrBefore_30 (by omega)
      · refine j_iconst (pc := 25) hC d_P_openAtOrBefore_25 ?_
        refine j_goto (pc := 26) (tgt := 30) hC d_P_openAtOrBefore_26 (by decide) ?_
        exact j_iret (pc := 30) hC d_P_openAtOrBefore_30 (by rw [oab_neg (by omega)] at hI; rw [hI]; exact hp)
    · refine j_aload_n (pc := 6) hC d_P_openAtOrBefore_6 rfl ?_
      refine jp_gf_shut (pc := 7) hC hG d_P_openAtOrBefore_7 ?_
      refine j_iload_n (pc := 10) hC d_P_openAtOrBefore_10 rfl ?_
      refine jp_ld_shut (pc := 11) hC hG d_P_openAtOrBefore_11 (fun l11 u11 => ?_)
      refine j_if_eq (pc := 12) (tgt := 21) hC d_P_openAtOrBefore_12 (by decide) (fun w12 => ?_) (fun w12 => ?_)
      · refine j_iload_n (pc := 21) hC d_P_openAtOrBefore_21 rfl ?_
        refine j_if_ge (pc := 22) (tgt := 29) hC d_P_openAtOrBefore_22 (by decide) (fun w22 => ?_) (fun w22 => ?_)
        · refine j_iload_n (pc := 29) hC d_P_openAtOrBefore_29 rfl ?_
          exact j_iret (pc := 30) hC d_P_openAtOrBefore_30 (by rw [oab_0 (by omega) (by omega)] at hI; rw [hI]; exact hp)
        · refine j_iconst (pc := 25) hC d_P_openAtOrBefore_25 ?_
          refine j_goto (pc := 26) (tgt := 30) hC d_P_openAtOrBefore_26 (by decide) ?_
          exact j_iret (pc := 30) hC d_P_openAtOrBefore_30 (by omega)
      · refine j_iinc_2 (pc := 15) hC d_P_openAtOrBefore_15 (by decide) ?_
        refine j_goto (pc := 18) (tgt := 2) hC d_P_openAtOrBefore_18 (by decide) ?_
        exact ih (q + -1) (by omega) (by omega) (by omega) (by omega) (by rw [show q + -1 = q - 1 by omega, ← oab_1 (by omega) (by omega)]; exact hI)
theorem c_P_openAtOrBefore (S : St) (ho : okP S) (t : Int) (a1 : -1000 ≤ t) (a2 : t ≤ 47) : Ct PW okP y_P_openAtOrBefore b_P_openAtOrBefore 3 (some .int) 0 [t] S (fun z u => u = S ∧ z = oab (S 10) t) := by
  refine Ct.of (by decide) (Nat.le_of_ble_eq_true rfl) ho (fun X hW hk hC => ?_)
  have hG : GP X := ⟨hW, hk⟩
  replace hC : CX X R_P b_P_openAtOrBefore 3 (some .int) 0 := hC
  show J X 3 (some .int) _ S 0 [some (.ref (gA X 0)), some (vI t), none] []
  refine j_iload_n (pc := 0) hC d_P_openAtOrBefore_0 rfl ?_
  refine j_istore_2 (pc := 1) hC d_P_openAtOrBefore_1 (by decide) ?_
  exact lp_P_oab hC hG ⟨rfl, rfl⟩ 60 t (by omega) (by omega) (by omega) (by omega) rfl
/-- openAtOrAfter(t) -/
def isOaa (f : Int → Int) (t z : Int) : Prop := t ≤ z ∧ (z = t ∨ z ≤ 47) ∧ (∀ q, t ≤ q → q < z → f q = 1) ∧ (z < 47 → f z = 0)
theorem lp_P_oaa {t : Int} (hC : CX X R_P b_P_openAtOrAfter 3 (some .int) 0) (hG : GP X) (t1 : 0 ≤ t) (t2 : t ≤ 1000) (hp : ∀ z, isOaa (S 10) t z → post z S) : ∀ (n : Nat) (q : Int), t ≤ q → q ≤ 1000 → (q = t ∨ q ≤ 47) → 47 - q < n → 1 ≤ n → (∀ a, t ≤ a → a < q → S 10 a = 1) → J X 3 (some .int) post S 2 [some (.ref (gA X 0)), some (vI t), some (vI q)] [] := by
  intro n
  induction n with
  | zero => intro q h1 h2 h3 h4 h5; omega
  | succ n ih =>
    intro q h1 h2 h3 h4 h5 hI
    refine j_iload_n (pc := 2) hC d_P_openAtOrAfter_2 rfl ?_
    refine j_bipush (pc := 3) hC d_P_openAtOrAfter_3 (by decide) ?_
    refine j_icmp_ge (pc := 5) (tgt := 23) hC d_P_openAtOrAfter_5 (by decide) (fun w5 => ?_) (fun w5 => ?_)
    · refine j_iload_n (pc := 23) hC d_P_openAtOrAfter_23 rfl ?_
      exact j_iret (pc := 24) hC d_P_openAtOrAfter_24 (hp q ⟨h1, h3, hI, by omega⟩)
    · refine j_aload_n (pc := 8) hC d_P_openAtOrAfter_8 rfl ?_
      refine jp_gf_shut (pc := 9) hC hG d_P_openAtOrAfter_9 ?_
      refine j_iload_n (pc := 12) hC d_P_openAtOrAfter_12 rfl ?_
      refine jp_ld_shut (pc := 13) hC hG d_P_openAtOrAfter_13 (fun l13 u13 => ?_)
      refine j_if_eq (pc := 14) (tgt := 23) hC d_P_openAtOrAfter_14 (by decide) (fun w14 => ?_) (fun w14 => ?_)
      · refine j_iload_n (pc := 23) hC d_P_openAtOrAfter_23 rfl ?_
        exact j_iret (pc := 24) hC d_P_openAtOrAfter_24 (hp q ⟨h1, h3, hI, by omega⟩)
      · refine j_iinc_2 (pc := 17) hC d_P_openAtOrAfter_17 (by decide) ?_
        refine j_goto (pc := 20) (tgt := 2) hC d_P_openAtOrAfter_20 (by decide) ?_
        exact ih (q + 1) (by omega) (by omega) (by omega) (by omega) (by omega) (fun a b1 b2 => by rcases (show a < q ∨ a = q by omega) with e | rfl; (exact hI a b1 e); omega)
theorem c_P_openAtOrAfter (S : St) (ho : okP S) (t : Int) (t1 : 0 ≤ t) (t2 : t ≤ 1000) : Ct PW okP y_P_openAtOrAfter b_P_openAtOrAfter 3 (some .int) 0 [t] S (fun z u => u = S ∧ isOaa (S 10) t z) := by
  refine Ct.of (by decide) (Nat.le_of_ble_eq_true rfl) ho (fun X hW hk hC => ?_)
  have hG : GP X := ⟨hW, hk⟩
  replace hC : CX X R_P b_P_openAtOrAfter 3 (some .int) 0 := hC
  show J X 3 (some .int) _ S 0 [some (.ref (gA X 0)), some (vI t), none] []
  refine j_iload_n (pc := 0) hC d_P_openAtOrAfter_0 rfl ?_
  refine j_istore_2 (pc := 1) hC d_P_openAtOrAfter_1 (by decide) ?_
  exact lp_P_oaa hC hG t1 t2 (fun z h => ⟨rfl, h⟩) 60 t (by omega) (by omega) (by omega) (by omega) (by omega) (fun a _ _ => by omega)
/-- leastWaitingRelease() -/
def lwrI (S : St) (k z : Int) : Prop := -128 ≤ z ∧ z ≤ 41 ∧ (∀ a, 0 ≤ a → a < k → S 9 a = 0 → z ≤ S 7 a) ∧ (z = 41 ∨ ∃ a, 0 ≤ a ∧ a < k ∧ S 9 a = 0 ∧ S 7 a = z)
theorem lwr_skip {k z : Int} (h : lwrI S k z) (hs : S 9 k = 0 → z ≤ S 7 k) : lwrI S (k + 1) z :=
  ⟨h.1, h.2.1, fun a a1 a2 a3 => by
    rcases (show a < k ∨ a = k by omega) with q | rfl
    · exact h.2.2.1 a a1 q a3
    · exact hs a3, by
    rcases h.2.2.2 with q | ⟨a, q1, q2, q3⟩
    · exact Or.inl q
    · exact Or.inr ⟨a, q1, by omega, q3⟩⟩
theorem lwr_take {k z : Int} (h : lwrI S k z) (h0 : 0 ≤ k) (h1 : S 9 k = 0) (h2 : S 7 k < z) (h3 : -128 ≤ S 7 k) : lwrI S (k + 1) (S 7 k) :=
  ⟨h3, by have := h.2.1; omega, fun a a1 a2 a3 => by
    rcases (show a < k ∨ a = k by omega) with q | rfl
    · have := h.2.2.1 a a1 q a3; omega
    · omega, Or.inr ⟨k, h0, by omega, h1, rfl⟩⟩
theorem lp_P_lwr (hC : CX X R_P b_P_leastWaitingRelease 3 (some .int) 0) (hG : GP X) (hp : ∀ z, lwrI S (S 0 2) z → post z S) : ∀ (n : Nat) (k z : Int), 0 ≤ k → k ≤ S 0 2 → S 0 2 - k < n → lwrI S k z → J X 3 (some .int) post S 5 [some (.ref (gA X 0)), some (vI z), some (vI k)] [] := by
  intro n
  induction n with
  | zero => intro k z h1 h2 h3; omega
  | succ n ih =>
    intro k z h1 h2 h3 hI
    have hz1 := hI.1
    have hz2 := hI.2.1
    refine j_iload_n (pc := 5) hC d_P_leastWaitingRelease_5 rfl ?_
    refine j_aload_n (pc := 6) hC d_P_leastWaitingRelease_6 rfl ?_
    refine jp_gf_asked (pc := 7) hC hG d_P_leastWaitingRelease_7 (fun l7 u7 => ?_)
    refine j_icmp_ge (pc := 10) (tgt := 45) hC d_P_leastWaitingRelease_10 (by decide) (fun w10 => ?_) (fun w10 => ?_)
    · refine j_iload_n (pc := 45) hC d_P_leastWaitingRelease_45 rfl ?_
      exact j_iret (pc := 46) hC d_P_leastWaitingRelease_46 (hp z (by rw [show S 0 2 = k by omega]; exact hI))
    · refine j_aload_n (pc := 13) hC d_P_leastWaitingRelease_13 rfl ?_
      refine jp_gf_placed (pc := 14) hC hG d_P_leastWaitingRelease_14 ?_
      refine j_iload_n (pc := 17) hC d_P_leastWaitingRelease_17 rfl ?_
      refine jp_ld_placed (pc := 18) hC hG d_P_leastWaitingRelease_18 (fun l18 u18 => ?_)
      refine j_if_ne (pc := 19) (tgt := 39) hC d_P_leastWaitingRelease_19 (by decide) (fun w19 => ?_) (fun w19 => ?_)
      · refine j_iinc_2 (pc := 39) hC d_P_leastWaitingRelease_39 (by decide) ?_
        refine j_goto (pc := 42) (tgt := 5) hC d_P_leastWaitingRelease_42 (by decide) ?_
        exact ih (k + 1) z (by omega) (by omega) (by omega) (lwr_skip hI (by omega))
      · refine j_aload_n (pc := 22) hC d_P_leastWaitingRelease_22 rfl ?_
        refine jp_gf_askFrom (pc := 23) hC hG d_P_leastWaitingRelease_23 ?_
        refine j_iload_n (pc := 26) hC d_P_leastWaitingRelease_26 rfl ?_
        refine jp_ld_askFrom (pc := 27) hC hG d_P_leastWaitingRelease_27 (fun l27 u27 => ?_)
        refine j_iload_n (pc := 28) hC d_P_leastWaitingRelease_28 rfl ?_
        refine j_icmp_ge (pc := 29) (tgt := 39) hC d_P_leastWaitingRelease_29 (by decide) (fun w29 => ?_) (fun w29 => ?_)
        · refine j_iinc_2 (pc := 39) hC d_P_leastWaitingRelease_39 (by decide) ?_
          refine j_goto (pc := 42) (tgt := 5) hC d_P_leastWaitingRelease_42 (by decide) ?_
          exact ih (k + 1) z (by omega) (by omega) (by omega) (lwr_skip hI (by omega))
        · refine j_aload_n (pc := 32) hC d_P_leastWaitingRelease_32 rfl ?_
          refine jp_gf_askFrom (pc := 33) hC hG d_P_leastWaitingRelease_33 ?_
          refine j_iload_n (pc := 36) hC d_P_leastWaitingRelease_36 rfl ?_
          refine jp_ld_askFrom (pc := 37) hC hG d_P_leastWaitingRelease_37 (fun l37 u37 => ?_)
          refine j_istore_1 (pc := 38) hC d_P_leastWaitingRelease_38 (by decide) ?_
          refine j_iinc_2 (pc := 39) hC d_P_leastWaitingRelease_39 (by decide) ?_
          refine j_goto (pc := 42) (tgt := 5) hC d_P_leastWaitingRelease_42 (by decide) ?_
          exact ih (k + 1) _ (by omega) (by omega) (by omega) (lwr_take hI h1 (by omega) (by omega) (by omega))
theorem c_P_leastWaitingRelease (S : St) (ho : okP S) : Ct PW okP y_P_leastWaitingRelease b_P_leastWaitingRelease 3 (some .int) 0 [] S (fun z u => u = S ∧ lwrI S (S 0 2) z) := by
  refine Ct.of (by decide) (Nat.le_of_ble_eq_true rfl) ho (fun X hW hk hC => ?_)
  have hG : GP X := ⟨hW, hk⟩
  replace hC : CX X R_P b_P_leastWaitingRelease 3 (some .int) 0 := hC
  show J X 3 (some .int) _ S 0 [some (.ref (gA X 0)), none, none] []
  have hb := ho.2.2.1
  refine j_bipush (pc := 0) hC d_P_leastWaitingRelease_0 (by decide) ?_
  refine j_istore_1 (pc := 2) hC d_P_leastWaitingRelease_2 (by decide) ?_
  refine j_iconst (pc := 3) hC d_P_leastWaitingRelease_3 ?_
  refine j_istore_2 (pc := 4) hC d_P_leastWaitingRelease_4 (by decide) ?_
  exact lp_P_lwr hC hG (fun z h => ⟨rfl, h⟩) 10 0 _ (by omega) (by omega) (by omega) ⟨by omega, by omega, fun a _ _ => by omega, Or.inl rfl⟩
/-- mostUrgent(t) -/
def muI (S : St) (t k z : Int) : Prop := (z = -1 ∧ ∀ a, 0 ≤ a → a < k → S 9 a = 0 → t < S 7 a) ∨ (0 ≤ z ∧ z < k ∧ S 9 z = 0 ∧ S 7 z ≤ t ∧ ∀ a, 0 ≤ a → a < k → S 9 a = 0 → S 7 a ≤ t → S 8 z ≤ S 8 a)
theorem mu_skip {t k z : Int} (h : muI S t k z) (hs : S 9 k = 0 → S 7 k ≤ t → 0 ≤ z ∧ S 8 z ≤ S 8 k) : muI S t (k + 1) z := by
  rcases h with ⟨rfl, h⟩ | ⟨q1, q2, q3, q4, h⟩
  · refine Or.inl ⟨rfl, fun a a1 a2 a3 => ?_⟩
    rcases (show a < k ∨ a = k by omega) with q | rfl
    · exact h a a1 q a3
    · rcases Int.lt_or_le t (S 7 a) with e | e
      · exact e
      · have := (hs a3 e).1; omega
  · refine Or.inr ⟨q1, by omega, q3, q4, fun a a1 a2 a3 a4 => ?_⟩
    rcases (show a < k ∨ a = k by omega) with q | rfl
    · exact h a a1 q a3 a4
    · exact (hs a3 a4).2
theorem mu_take {t k z : Int} (h : muI S t k z) (h0 : 0 ≤ k) (h1 : S 9 k = 0) (h2 : S 7 k ≤ t) (h3 : 0 ≤ z → S 8 k < S 8 z) : muI S t (k + 1) k := by
  refine Or.inr ⟨h0, by omega, h1, h2, fun a a1 a2 a3 a4 => ?_⟩
  rcases (show a < k ∨ a = k by omega) with q | rfl
  · rcases h with ⟨-, h⟩ | ⟨q1, q2, q3, q4, h⟩
    · have := h a a1 q a3; omega
    · have e1 := h a a1 q a3 a4
      have e2 := h3 q1
      omega
  · omega
theorem mu_bd {t k z : Int} (h : muI S t k z) : -1 ≤ z ∧ (z < k ∨ z = -1) := by
  rcases h with ⟨rfl, h⟩ | ⟨q1, q2, q3, q4, h⟩
  · omega
  · omega
theorem lp_P_mu {t : Int} (hC : CX X R_P b_P_mostUrgent 4 (some .int) 0) (hG : GP X) (t1 : -1000 ≤ t) (t2 : t ≤ 1000) (hp : ∀ z, muI S t (S 0 2) z → post z S) : ∀ (n : Nat) (k z : Int), 0 ≤ k → k ≤ S 0 2 → S 0 2 - k < n → muI S t k z → J X 4 (some .int) post S 4 [some (.ref (gA X 0)), some (vI t), some (vI z), some (vI k)] [] := by
  intro n
  induction n with
  | zero => intro k z h1 h2 h3; omega
  | succ n ih =>
    intro k z h1 h2 h3 hI
    have hz := mu_bd hI
    refine j_iload_n (pc := 4) hC d_P_mostUrgent_4 rfl ?_
    refine j_aload_n (pc := 5) hC d_P_mostUrgent_5 rfl ?_
    refine jp_gf_asked (pc := 6) hC hG d_P_mostUrgent_6 (fun l6 u6 => ?_)
    refine j_icmp_ge (pc := 9) (tgt := 58) hC d_P_mostUrgent_9 (by decide) (fun w9 => ?_) (fun w9 => ?_)
    · refine j_iload_n (pc := 58) hC d_P_mostUrgent_58 rfl ?_
      exact j_iret (pc := 59) hC d_P_mostUrgent_59 (hp z (by rw [show S 0 2 = k by omega]; exact hI))
    · refine j_aload_n (pc := 12) hC d_P_mostUrgent_12 rfl ?_
      refine jp_gf_placed (pc := 13) hC hG d_P_mostUrgent_13 ?_
      refine j_iload_n (pc := 16) hC d_P_mostUrgent_16 rfl ?_
      refine jp_ld_placed (pc := 17) hC hG d_P_mostUrgent_17 (fun l17 u17 => ?_)
      refine j_if_ne (pc := 18) (tgt := 52) hC d_P_mostUrgent_18 (by decide) (fun w18 => ?_) (fun w18 => ?_)
      · refine j_iinc_3 (pc := 52) hC d_P_mostUrgent_52 (by decide) ?_
        refine j_goto (pc := 55) (tgt := 4) hC d_P_mostUrgent_55 (by decide) ?_
        exact ih (k + 1) z (by omega) (by omega) (by omega) (mu_skip hI (by omega))
      · refine j_aload_n (pc := 21) hC d_P_mostUrgent_21 rfl ?_
        refine jp_gf_askFrom (pc := 22) hC hG d_P_mostUrgent_22 ?_
        refine j_iload_n (pc := 25) hC d_P_mostUrgent_25 rfl ?_
        refine jp_ld_askFrom (pc := 26) hC hG d_P_mostUrgent_26 (fun l26 u26 => ?_)
        refine j_iload_n (pc := 27) hC d_P_mostUrgent_27 rfl ?_
        refine j_icmp_gt (pc := 28) (tgt := 52) hC d_P_mostUrgent_28 (by decide) (fun w28 => ?_) (fun w28 => ?_)
        · refine j_iinc_3 (pc := 52) hC d_P_mostUrgent_52 (by decide) ?_
          refine j_goto (pc := 55) (tgt := 4) hC d_P_mostUrgent_55 (by decide) ?_
          exact ih (k + 1) z (by omega) (by omega) (by omega) (mu_skip hI (by omega))
        · refine j_iload_n (pc := 31) hC d_P_mostUrgent_31 rfl ?_
          refine j_if_lt (pc := 32) (tgt := 50) hC d_P_mostUrgent_32 (by decide) (fun w32 => ?_) (fun w32 => ?_)
          · refine j_iload_n (pc := 50) hC d_P_mostUrgent_50 rfl ?_
            refine j_istore_2 (pc := 51) hC d_P_mostUrgent_51 (by decide) ?_
            refine j_iinc_3 (pc := 52) hC d_P_mostUrgent_52 (by decide) ?_
            refine j_goto (pc := 55) (tgt := 4) hC d_P_mostUrgent_55 (by decide) ?_
            exact ih (k + 1) k (by omega) (by omega) (by omega) (mu_take hI h1 (by omega) (by omega) (by omega))
          · refine j_aload_n (pc := 35) hC d_P_mostUrgent_35 rfl ?_
            refine jp_gf_askUntil (pc := 36) hC hG d_P_mostUrgent_36 ?_
            refine j_iload_n (pc := 39) hC d_P_mostUrgent_39 rfl ?_
            refine jp_ld_askUntil (pc := 40) hC hG d_P_mostUrgent_40 (fun l40 u40 => ?_)
            refine j_aload_n (pc := 41) hC d_P_mostUrgent_41 rfl ?_
            refine jp_gf_askUntil (pc := 42) hC hG d_P_mostUrgent_42 ?_
            refine j_iload_n (pc := 45) hC d_P_mostUrgent_45 rfl ?_
            refine jp_ld_askUntil (pc := 46) hC hG d_P_mostUrgent_46 (fun l46 u46 => ?_)
            refine j_icmp_ge (pc := 47) (tgt := 52) hC d_P_mostUrgent_47 (by decide) (fun w47 => ?_) (fun w47 => ?_)
            · refine j_iinc_3 (pc := 52) hC d_P_mostUrgent_52 (by decide) ?_
              refine j_goto (pc := 55) (tgt := 4) hC d_P_mostUrgent_55 (by decide) ?_
              exact ih (k + 1) z (by omega) (by omega) (by omega) (mu_skip hI (by omega))
            · refine j_iload_n (pc := 50) hC d_P_mostUrgent_50 rfl ?_
              refine j_istore_2 (pc := 51) hC d_P_mostUrgent_51 (by decide) ?_
              refine j_iinc_3 (pc := 52) hC d_P_mostUrgent_52 (by decide) ?_
              refine j_goto (pc := 55) (tgt := 4) hC d_P_mostUrgent_55 (by decide) ?_
              exact ih (k + 1) k (by omega) (by omega) (by omega) (mu_take hI h1 (by omega) (by omega) (by omega))
theorem c_P_mostUrgent (S : St) (ho : okP S) (t : Int) (t1 : -1000 ≤ t) (t2 : t ≤ 1000) : Ct PW okP y_P_mostUrgent b_P_mostUrgent 4 (some .int) 0 [t] S (fun z u => u = S ∧ muI S t (S 0 2) z) := by
  refine Ct.of (by decide) (Nat.le_of_ble_eq_true rfl) ho (fun X hW hk hC => ?_)
  have hG : GP X := ⟨hW, hk⟩
  replace hC : CX X R_P b_P_mostUrgent 4 (some .int) 0 := hC
  show J X 4 (some .int) _ S 0 [some (.ref (gA X 0)), some (vI t), none, none] []
  have hb := ho.2.2.1
  refine j_iconst (pc := 0) hC d_P_mostUrgent_0 ?_
  refine j_istore_2 (pc := 1) hC d_P_mostUrgent_1 (by decide) ?_
  refine j_iconst (pc := 2) hC d_P_mostUrgent_2 ?_
  refine j_istore_3 (pc := 3) hC d_P_mostUrgent_3 (by decide) ?_
  exact lp_P_mu hC hG t1 t2 (fun z h => ⟨rfl, h⟩) 10 0 _ (by omega) (by omega) (by omega) (Or.inl ⟨rfl, fun a _ _ => by omega⟩)
end LeafP
end
section
-- THE PLANNER: putting a question together; packing backwards; shutting
def pinR (S : St) (pins i : Int) : Int := if i < pins then S 11 i else S 2 i
def pinD (S : St) (pins i : Int) : Int := if i < pins then S 11 i + S 0 0 else S 3 i
def askI (S U : St) (id pins k : Int) : Prop := (∀ b j, b ≠ 7 → b ≠ 8 → ¬ (b = 0 ∧ j = 2) → U b j = S b j) ∧ 0 ≤ U 0 2 ∧ U 0 2 ≤ k ∧ ∃ σ : Int → Int, (∀ a, 0 ≤ a → a < U 0 2 → 0 ≤ σ a ∧ σ a < k ∧ S 1 (σ a) = 1 ∧ σ a ≠ id ∧ U 7 a = pinR S pins (σ a) ∧ U 8 a = pinD S pins (σ a)) ∧ (∀ a b, 0 ≤ a → a < b → b < U 0 2 → σ a ≠ σ b) ∧ (∀ i, 0 ≤ i → i < k → S 1 i = 1 → i ≠ id → ∃ a, 0 ≤ a ∧ a < U 0 2 ∧ σ a = i)
theorem ask_skip {S U : St} {id pins k : Int} (h : askI S U id pins k) (q : ¬ (S 1 k = 1 ∧ k ≠ id)) : askI S U id pins (k + 1) := by
  obtain ⟨h1, h2, h3, σ, h4, h5, h6⟩ := h
  refine ⟨h1, h2, by omega, σ, fun a a1 a2 => ?_, h5, fun i i1 i2 i3 i4 => ?_⟩
  · obtain ⟨e1, e2, e3⟩ := h4 a a1 a2
    exact ⟨e1, by omega, e3⟩
  · rcases (show i < k ∨ i = k by omega) with e | rfl
    · exact h6 i i1 e i3 i4
    · exact absurd ⟨i3, i4⟩ q
theorem askS_0 (U : St) (r d : Int) : askS U r d 0 2 = U 0 2 + 1 := s2_eq _ _ _ _
theorem askS_7 (U : St) (r d a : Int) : askS U r d 7 a = if a = U 0 2 then r else U 7 a := by
  unfold askS
  rw [s2_ne (by rintro ⟨q, -⟩; cases q), s2_ne (by rintro ⟨q, -⟩; cases q)]
  by_cases e : a = U 0 2
  · rw [if_pos e, e, s2_eq]
  · rw [if_neg e, s2_ne (fun q => e q.2)]
theorem askS_8 (U : St) (r d a : Int) : askS U r d 8 a = if a = U 0 2 then d else U 8 a := by
  unfold askS
  rw [s2_ne (by rintro ⟨q, -⟩; cases q)]
  by_cases e : a = U 0 2
  · rw [if_pos e, e, s2_eq]
  · rw [if_neg e, s2_ne (fun q => e q.2), s2_ne (by rintro ⟨q, -⟩; cases q)]
theorem askS_n (U : St) (r d : Int) {b : Nat} {j : Int} (h1 : b ≠ 7) (h2 : b ≠ 8) (h3 : ¬ (b = 0 ∧ j = 2)) : askS U r d b j = U b j := by
  unfold askS
  rw [s2_ne h3, s2_ne (fun q => h2 q.1), s2_ne (fun q => h1 q.1)]
theorem ask_take {S U : St} {id pins k r d : Int} (h : askI S U id pins k) (h0 : 0 ≤ k) (q1 : S 1 k = 1) (q2 : k ≠ id) (hr : r = pinR S pins k) (hd : d = pinD S pins k) : askI S (askS U r d) id pins (k + 1) := by
  obtain ⟨h1, h2, h3, σ, h4, h5, h6⟩ := h
  refine ⟨fun b j b1 b2 b3 => by rw [askS_n U r d b1 b2 b3]; exact h1 b j b1 b2 b3, by rw [askS_0]; omega, by rw [askS_0]; omega, fun a => if a = U 0 2 then k else σ a, fun a a1 a2 => ?_, fun a b a1 a2 a3 => ?_, fun i i1 i2 i3 i4 => ?_⟩
  · rw [askS_0] at a2
    rw [askS_7, askS_8]
    by_cases e : a = U 0 2
    · simp only [if_pos e]
      exact ⟨h0, by omega, q1, q2, hr, hd⟩
    · simp only [if_neg e]
      obtain ⟨e1, e2, e3⟩ := h4 a a1 (by omega)
      exact ⟨e1, by omega, e3⟩
  · rw [askS_0] at a3
    simp only [if_neg (show ¬ a = U 0 2 by omega)]
    by_cases e : b = U 0 2
    · simp only [if_pos e]
      have := h4 a a1 (by omega)
      omega
    · simp only [if_neg e]
      exact h5 a b a1 a2 (by omega)
  · rcases (show i < k ∨ i = k by omega) with e | rfl
    · obtain ⟨a, a1, a2, a3⟩ := h6 i i1 e i3 i4
      exact ⟨a, a1, by rw [askS_0]; omega, by show (if a = U 0 2 then k else σ a) = i; rw [if_neg (by omega)]; exact a3⟩
    · exact ⟨U 0 2, h2, by rw [askS_0]; omega, if_pos rfl⟩
section MidP
variable {X : Cx} {S : St} {post : Int → St → Prop}
theorem lp_P_askPinned {id pins : Int} (hC : CX X R_P b_P_askPinned 7 none 1) (hG : GP X) (i1 : -1000 ≤ id) (i2 : id ≤ 1000) (p1 : 0 ≤ pins) (p2 : pins ≤ 1000) (hpl : ∀ i, 0 ≤ i → i < S 0 1 → i < pins → S 1 i = 1 → S 11 i ≤ 100) (hp : ∀ U, askI S U id pins (S 0 1) → post 0 U) : ∀ (n : Nat) (k : Int) (U : St), 0 ≤ k → k ≤ S 0 1 → S 0 1 - k < n → askI S U id pins k → J X 7 none post U 7 [some (.ref (gA X 0)), some (vI id), some (vI pins), some (vI k), none, none, none] [] := by
  intro n
  induction n with
  | zero => intro k U h1 h2 h3; omega
  | succ n ih =>
    intro k U h1 h2 h3 hI
    refine jp_ok hG (fun ho => ?_)
    have e01 := hI.1 0 1 (by decide) (by decide) (by decide)
    have e00 := hI.1 0 0 (by decide) (by decide) (by decide)
    have e1k := hI.1 1 k (by decide) (by decide) (by omega)
    have e2k := hI.1 2 k (by decide) (by decide) (by omega)
    have e3k := hI.1 3 k (by decide) (by decide) (by omega)
    have e11k := hI.1 11 k (by decide) (by decide) (by omega)
    have hb0 := ho.1
    have hb1 := ho.2.1
    have hU2 := hI.2.1
    have hU3 := hI.2.2.1
    refine j_iload_n (pc := 7) hC d_P_askPinned_7 rfl ?_
    refine j_aload_n (pc := 8) hC d_P_askPinned_8 rfl ?_
    refine jp_gf_capacity (pc := 9) hC hG d_P_askPinned_9 (fun l9 u9 => ?_)
    refine j_icmp_ge (pc := 12) (tgt := 104) hC d_P_askPinned_12 (by decide) (fun w12 => ?_) (fun w12 => ?_)
    · exact j_vret (pc := 104) hC d_P_askPinned_104 (hp U (by rw [show S 0 1 = k by omega]; exact hI))
    · refine j_aload_n (pc := 15) hC d_P_askPinned_15 rfl ?_
      refine jp_gf_used (pc := 16) hC hG d_P_askPinned_16 ?_
      refine j_iload_n (pc := 19) hC d_P_askPinned_19 rfl ?_
      refine jp_ld_used (pc := 20) hC hG d_P_askPinned_20 (fun l20 u20 => ?_)
      refine j_if_eq (pc := 21) (tgt := 98) hC d_P_askPinned_21 (by decide) (fun w21 => ?_) (fun w21 => ?_)
      · refine j_iinc_3 (pc := 98) hC d_P_askPinned_98 (by decide) ?_
        refine j_goto (pc := 101) (tgt := 7) hC d_P_askPinned_101 (by decide) ?_
        exact j_forget4 3 (ih (k + 1) U (by omega) (by omega) (by omega) (ask_skip hI (by omega)))
      · refine j_iload_n (pc := 24) hC d_P_askPinned_24 rfl ?_
        refine j_iload_n (pc := 25) hC d_P_askPinned_25 rfl ?_
        refine j_icmp_eq (pc := 26) (tgt := 98) hC d_P_askPinned_26 (by decide) (fun w26 => ?_) (fun w26 => ?_)
        · refine j_iinc_3 (pc := 98) hC d_P_askPinned_98 (by decide) ?_
          refine j_goto (pc := 101) (tgt := 7) hC d_P_askPinned_101 (by decide) ?_
          exact j_forget4 3 (ih (k + 1) U (by omega) (by omega) (by omega) (ask_skip hI (by omega)))
        · refine j_iload_n (pc := 29) hC d_P_askPinned_29 rfl ?_
          refine j_iload_n (pc := 30) hC d_P_askPinned_30 rfl ?_
          refine j_icmp_ge (pc := 31) (tgt := 38) hC d_P_askPinned_31 (by decide) (fun w31 => ?_) (fun w31 => ?_)
          · refine j_iconst (pc := 38) hC d_P_askPinned_38 ?_
            refine j_istore_4 (pc := 39) hC d_P_askPinned_39 (by decide) ?_
            refine j_iload (pc := 41) hC d_P_askPinned_41 rfl ?_
            refine j_if_eq (pc := 43) (tgt := 55) hC d_P_askPinned_43 (by decide) (fun w43 => ?_) (fun w43 => ?_)
            · refine j_aload_n (pc := 55) hC d_P_askPinned_55 rfl ?_
              refine jp_gf_from (pc := 56) hC hG d_P_askPinned_56 ?_
              refine j_iload_n (pc := 59) hC d_P_askPinned_59 rfl ?_
              refine jp_ld_from (pc := 60) hC hG d_P_askPinned_60 (fun l60 u60 => ?_)
              refine j_istore_5 (pc := 61) hC d_P_askPinned_61 (by decide) ?_
              refine j_iload (pc := 63) hC d_P_askPinned_63 rfl ?_
              refine j_if_eq (pc := 65) (tgt := 82) hC d_P_askPinned_65 (by decide) (fun w65 => ?_) (fun w65 => ?_)
              · refine j_aload_n (pc := 82) hC d_P_askPinned_82 rfl ?_
                refine jp_gf_until (pc := 83) hC hG d_P_askPinned_83 ?_
                refine j_iload_n (pc := 86) hC d_P_askPinned_86 rfl ?_
                refine jp_ld_until (pc := 87) hC hG d_P_askPinned_87 (fun l87 u87 => ?_)
                refine j_istore_6 (pc := 88) hC d_P_askPinned_88 (by decide) ?_
                refine j_aload_n (pc := 90) hC d_P_askPinned_90 rfl ?_
                refine j_iload (pc := 91) hC d_P_askPinned_91 rfl ?_
                refine j_iload (pc := 93) hC d_P_askPinned_93 rfl ?_
                refine jp_callv2 (pc := 95) hC hG (cw_P_70 (by decide)) rfl d_P_askPinned_95 (c_P_ask U ho (U 2 k) (U 3 k) (by omega) (by omega) (by omega) (by omega) (by omega)) (fun S95 p95 o95 => ?_)
                refine J.eqs p95 ?_
                refine j_iinc_3 (pc := 98) hC d_P_askPinned_98 (by decide) ?_
                refine j_goto (pc := 101) (tgt := 7) hC d_P_askPinned_101 (by decide) ?_
                exact j_forget4 3 (ih (k + 1) _ (by omega) (by omega) (by omega) (ask_take hI h1 (by omega) (by omega) (by unfold pinR; rw [if_neg (by omega)]; exact e2k) (by unfold pinD; rw [if_neg (by omega)]; exact e3k)))
              · exact False.elim (by omega)
            · exact False.elim (by omega)
          · refine j_iconst (pc := 34) hC d_P_askPinned_34 ?_
            refine j_goto (pc := 35) (tgt := 39) hC d_P_askPinned_35 (by decide) ?_
            refine j_istore_4 (pc := 39) hC d_P_askPinned_39 (by decide) ?_
            refine j_iload (pc := 41) hC d_P_askPinned_41 rfl ?_
            refine j_if_eq (pc := 43) (tgt := 55) hC d_P_askPinned_43 (by decide) (fun w43 => ?_) (fun w43 => ?_)
            · exact False.elim (by omega)
            · refine j_aload_n (pc := 46) hC d_P_askPinned_46 rfl ?_
              refine jp_gf_plan (pc := 47) hC hG d_P_askPinned_47 ?_
              refine j_iload_n (pc := 50) hC d_P_askPinned_50 rfl ?_
              refine jp_ld_plan (pc := 51) hC hG d_P_askPinned_51 (fun l51 u51 => ?_)
              refine j_goto (pc := 52) (tgt := 61) hC d_P_askPinned_52 (by decide) ?_
              refine j_istore_5 (pc := 61) hC d_P_askPinned_61 (by decide) ?_
              refine j_iload (pc := 63) hC d_P_askPinned_63 rfl ?_
              refine j_if_eq (pc := 65) (tgt := 82) hC d_P_askPinned_65 (by decide) (fun w65 => ?_) (fun w65 => ?_)
              · exact False.elim (by omega)
              · refine j_aload_n (pc := 68) hC d_P_askPinned_68 rfl ?_
                refine jp_gf_plan (pc := 69) hC hG d_P_askPinned_69 ?_
                refine j_iload_n (pc := 72) hC d_P_askPinned_72 rfl ?_
                refine jp_ld_plan (pc := 73) hC hG d_P_askPinned_73 (fun l73 u73 => ?_)
                refine j_aload_n (pc := 74) hC d_P_askPinned_74 rfl ?_
                refine jp_gf_length (pc := 75) hC hG d_P_askPinned_75 (fun l75 u75 => ?_)
                refine j_iadd (pc := 78) hC d_P_askPinned_78 ?_
                refine j_goto (pc := 79) (tgt := 88) hC d_P_askPinned_79 (by decide) ?_
                refine j_istore_6 (pc := 88) hC d_P_askPinned_88 (by decide) ?_
                refine j_aload_n (pc := 90) hC d_P_askPinned_90 rfl ?_
                refine j_iload (pc := 91) hC d_P_askPinned_91 rfl ?_
                refine j_iload (pc := 93) hC d_P_askPinned_93 rfl ?_
                refine jp_callv2 (pc := 95) hC hG (cw_P_70 (by decide)) rfl d_P_askPinned_95 (c_P_ask U ho (U 11 k) (U 11 k + U 0 0) (by omega) (by omega) (by omega) (by have := hpl k (by omega) (by omega) (by omega) (by omega); omega) (by omega)) (fun S95 p95 o95 => ?_)
                refine J.eqs p95 ?_
                refine j_iinc_3 (pc := 98) hC d_P_askPinned_98 (by decide) ?_
                refine j_goto (pc := 101) (tgt := 7) hC d_P_askPinned_101 (by decide) ?_
                exact j_forget4 3 (ih (k + 1) _ (by omega) (by omega) (by omega) (ask_take hI h1 (by omega) (by omega) (by unfold pinR; rw [if_pos (by omega)]; exact e11k) (by unfold pinD; rw [if_pos (by omega)]; omega)))
theorem c_P_askPinned (S : St) (ho : okP S) (id pins : Int) (i1 : -1000 ≤ id) (i2 : id ≤ 1000) (p1 : 0 ≤ pins) (p2 : pins ≤ 1000) (hpl : ∀ i, 0 ≤ i → i < S 0 1 → i < pins → S 1 i = 1 → S 11 i ≤ 100) : Ct PW okP y_P_askPinned b_P_askPinned 7 none 1 [id, pins] S (fun _ u => askI S u id pins (S 0 1)) := by
  refine Ct.of (by decide) (Nat.le_of_ble_eq_true rfl) ho (fun X hW hk hC => ?_)
  have hG : GP X := ⟨hW, hk⟩
  replace hC : CX X R_P b_P_askPinned 7 none 1 := hC
  show J X 7 none _ S 0 [some (.ref (gA X 0)), some (vI id), some (vI pins), none, none, none, none] []
  have hb := ho.2.1
  refine j_aload_n (pc := 0) hC d_P_askPinned_0 rfl ?_
  refine j_iconst (pc := 1) hC d_P_askPinned_1 ?_
  refine jp_pf_asked (pc := 2) hC hG d_P_askPinned_2 ?_
  refine j_iconst (pc := 5) hC d_P_askPinned_5 ?_
  refine j_istore_3 (pc := 6) hC d_P_askPinned_6 (by decide) ?_
  exact lp_P_askPinned hC hG i1 i2 p1 p2 hpl (fun U h => h) 10 0 _ (by omega) (by omega) (by omega) ⟨fun b j _ _ q => s2_ne q, by rw [s2_eq]; omega, by rw [s2_eq]; omega, fun a => a, fun a a1 a2 => by rw [s2_eq] at a2; omega, fun a b a1 a2 a3 => by rw [s2_eq] at a3; omega, fun i i1 i2 => by omega⟩
theorem c_P_askAllBut (S : St) (ho : okP S) (id : Int) (i1 : -1000 ≤ id) (i2 : id ≤ 1000) : Ct PW okP y_P_askAllBut b_P_askAllBut 2 none 2 [id] S (fun _ u => askI S u id 0 (S 0 1)) := by
  refine Ct.of (by decide) (Nat.le_of_ble_eq_true rfl) ho (fun X hW hk hC => ?_)
  have hG : GP X := ⟨hW, hk⟩
  replace hC : CX X R_P b_P_askAllBut 2 none 2 := hC
  show J X 2 none _ S 0 [some (.ref (gA X 0)), some (vI id)] []
  refine j_aload_n (pc := 0) hC d_P_askAllBut_0 rfl ?_
  refine j_iload_n (pc := 1) hC d_P_askAllBut_1 rfl ?_
  refine j_iconst (pc := 2) hC d_P_askAllBut_2 ?_
  refine jp_callv2 (pc := 3) hC hG (cw_P_98 (by decide)) rfl d_P_askAllBut_3 (c_P_askPinned S ho id 0 i1 i2 (by omega) (by omega) (fun i _ _ _ => by omega)) (fun S3 p3 o3 => ?_)
  exact j_vret (pc := 6) hC d_P_askAllBut_6 (p3)
theorem c_P_askAll (S : St) (ho : okP S) : Ct PW okP y_P_askAll b_P_askAll 1 none 3 [] S (fun _ u => askI S u (-1) 0 (S 0 1)) := by
  refine Ct.of (by decide) (Nat.le_of_ble_eq_true rfl) ho (fun X hW hk hC => ?_)
  have hG : GP X := ⟨hW, hk⟩
  replace hC : CX X R_P b_P_askAll 1 none 3 := hC
  show J X 1 none _ S 0 [some (.ref (gA X 0))] []
  refine j_aload_n (pc := 0) hC d_P_askAll_0 rfl ?_
  refine j_iconst (pc := 1) hC d_P_askAll_1 ?_
  refine jp_callv1 (pc := 2) hC hG (cw_P_82 (by decide)) rfl d_P_askAll_2 (c_P_askAllBut S ho (-1) (by omega) (by omega)) (fun S2 p2 o2 => ?_)
  exact j_vret (pc := 5) hC d_P_askAll_5 (p2)
/-- backFrom(d, count) -/
def bk (f : Int → Int) (p d : Int) : Nat → Int
  | 0 => d
  | k + 1 => oab f (bk f p d k - p)
theorem oab_bd (f : Int → Int) (t : Int) : -1 ≤ oab f t ∧ (oab f t ≤ t ∨ oab f t = -1) := by
  have h : ∀ n : Nat, -1 ≤ oabN f n ∧ (oabN f n < n ∨ oabN f n = -1) := by
    intro n
    induction n with
    | zero => simp [oabN]
    | succ n ih =>
      unfold oabN
      split <;> omega
  have h2 := h (t + 1).toNat
  unfold oab
  omega
theorem bk_bd {f : Int → Int} {p d : Int} (p1 : 1 ≤ p) (p2 : p ≤ 6) (d1 : -128 ≤ d) (d2 : d ≤ 48) : ∀ k : Nat, -128 ≤ bk f p d k ∧ bk f p d k ≤ 48
  | 0 => ⟨d1, d2⟩
  | k + 1 => by
    have h := bk_bd (f := f) p1 p2 d1 d2 k
    have h2 := oab_bd f (bk f p d k - p)
    show -128 ≤ oab f (bk f p d k - p) ∧ oab f (bk f p d k - p) ≤ 48
    omega
theorem bk_1 {f : Int → Int} {p d k : Int} (h : 0 ≤ k) : bk f p d (k + 1).toNat = oab f (bk f p d k.toNat - p) := by
  rw [show (k + 1).toNat = k.toNat + 1 by omega, bk]
theorem lp_P_backFrom {d count : Int} (ho : okP S) (hC : CX X R_P b_P_backFrom 5 (some .int) 1) (hG : GP X) (d1 : -128 ≤ d) (d2 : d ≤ 48) (c1 : 0 ≤ count) (c2 : count ≤ 8) (hp : post (bk (S 10) (S 0 0) d count.toNat) S) : ∀ (n : Nat) (k t : Int), 0 ≤ k → k ≤ count → count - k < n → t = bk (S 10) (S 0 0) d k.toNat → J X 5 (some .int) post S 12 [some (.ref (gA X 0)), some (vI d), some (vI count), some (vI t), some (vI k)] [] := by
  intro n
  induction n with
  | zero => intro k t h1 h2 h3; omega
  | succ n ih =>
    intro k t h1 h2 h3 hI
    have hb := ho.1
    have ht := bk_bd (f := S 10) hb.1 hb.2 d1 d2 k.toNat
    rw [← hI] at ht
    refine j_iload (pc := 12) hC d_P_backFrom_12 rfl ?_
    refine j_iload_n (pc := 14) hC d_P_backFrom_14 rfl ?_
    refine j_icmp_ge (pc := 15) (tgt := 35) hC d_P_backFrom_15 (by decide) (fun w15 => ?_) (fun w15 => ?_)
    · refine j_iload_n (pc := 35) hC d_P_backFrom_35 rfl ?_
      exact j_iret (pc := 36) hC d_P_backFrom_36 (by rw [hI, show k = count by omega]; exact hp)
    · refine j_aload_n (pc := 18) hC d_P_backFrom_18 rfl ?_
      refine j_iload_n (pc := 19) hC d_P_backFrom_19 rfl ?_
      refine j_aload_n (pc := 20) hC d_P_backFrom_20 rfl ?_
      refine jp_gf_length (pc := 21) hC hG d_P_backFrom_21 (fun l21 u21 => ?_)
      refine j_isub (pc := 24) hC d_P_backFrom_24 ?_
      refine jp_calli1 (pc := 25) hC hG (cw_P_126 (by decide)) rfl d_P_backFrom_25 (c_P_openAtOrBefore S ho (t - S 0 0) (by omega) (by omega)) (fun z S25 p25 o25 => ?_)
      refine J.eqs p25.1 ?_
      replace p25 := p25.2
      refine j_istore_3 (pc := 28) hC d_P_backFrom_28 (by decide) ?_
      refine j_iinc_4 (pc := 29) hC d_P_backFrom_29 (by decide) ?_
      refine j_goto (pc := 32) (tgt := 12) hC d_P_backFrom_32 (by decide) ?_
      exact ih (k + 1) _ (by omega) (by omega) (by omega) (by rw [bk_1 h1, ← hI]; exact p25)
/-- packing count jobs backwards from d; 41 for none -/
def bkc (S : St) (d count : Int) : Int := if count = 0 then 41 else bk (S 10) (S 0 0) d count.toNat
theorem c_P_backFrom (S : St) (ho : okP S) (d count : Int) (d1 : -128 ≤ d) (d2 : d ≤ 48) (c1 : 0 ≤ count) (c2 : count ≤ 8) : Ct PW okP y_P_backFrom b_P_backFrom 5 (some .int) 1 [d, count] S (fun z u => u = S ∧ z = bkc S d count) := by
  refine Ct.of (by decide) (Nat.le_of_ble_eq_true rfl) ho (fun X hW hk hC => ?_)
  have hG : GP X := ⟨hW, hk⟩
  replace hC : CX X R_P b_P_backFrom 5 (some .int) 1 := hC
  show J X 5 (some .int) _ S 0 [some (.ref (gA X 0)), some (vI d), some (vI count), none, none] []
  refine j_iload_n (pc := 0) hC d_P_backFrom_0 rfl ?_
  refine j_if_ne (pc := 1) (tgt := 7) hC d_P_backFrom_1 (by decide) (fun w1 => ?_) (fun w1 => ?_)
  · refine j_iload_n (pc := 7) hC d_P_backFrom_7 rfl ?_
    refine j_istore_3 (pc := 8) hC d_P_backFrom_8 (by decide) ?_
    refine j_iconst (pc := 9) hC d_P_backFrom_9 ?_
    refine j_istore_4 (pc := 10) hC d_P_backFrom_10 (by decide) ?_
    exact lp_P_backFrom ho hC hG d1 d2 c1 c2 ⟨rfl, by unfold bkc; rw [if_neg (by omega)]⟩ 10 0 d (by omega) (by omega) (by omega) rfl
  · refine j_bipush (pc := 4) hC d_P_backFrom_4 (by decide) ?_
    exact j_iret (pc := 6) hC d_P_backFrom_6 (⟨rfl, by unfold bkc; rw [if_pos (by omega)]⟩)
/-- shutBefore(r) -/
def ccr (S : St) (r a : Int) : Int := bkc S (S 8 a) (cntW S r (S 8 a) (S 0 2).toNat)
def critI (S : St) (r k z : Int) : Prop := -128 ≤ z ∧ z ≤ 41 ∧ (∀ a, 0 ≤ a → a < k → z ≤ ccr S r a) ∧ (z = 41 ∨ ∃ a, 0 ≤ a ∧ a < k ∧ z = ccr S r a)
theorem crit_skip {r k z : Int} (h : critI S r k z) (hs : z ≤ ccr S r k) : critI S r (k + 1) z :=
  ⟨h.1, h.2.1, fun a a1 a2 => by
    rcases (show a < k ∨ a = k by omega) with q | rfl
    · exact h.2.2.1 a a1 q
    · exact hs, by
    rcases h.2.2.2 with q | ⟨a, q1, q2, q3⟩
    · exact Or.inl q
    · exact Or.inr ⟨a, q1, by omega, q3⟩⟩
theorem crit_take {r k z : Int} (h : critI S r k z) (h0 : 0 ≤ k) (h2 : ccr S r k < z) (h3 : -128 ≤ ccr S r k) : critI S r (k + 1) (ccr S r k) :=
  ⟨h3, by have := h.2.1; omega, fun a a1 a2 => by
    rcases (show a < k ∨ a = k by omega) with q | rfl
    · have := h.2.2.1 a a1 q; omega
    · omega, Or.inr ⟨k, h0, by omega, rfl⟩⟩
theorem ccr_bd (ho : okP S) {r a : Int} (h : S 8 a ≤ 48) : -128 ≤ ccr S r a ∧ ccr S r a ≤ 48 := by
  unfold ccr bkc
  split
  · omega
  · exact bk_bd ho.1.1 ho.1.2 (ho.2.2.2.2.2.2.2.2.2.2.2.2.1 a).1 h _
def sbf (S : St) (r z : Int) (u : St) : Prop := ∃ crit, critI S r (S 0 2) crit ∧ ((z = 0 ∧ crit < r ∧ u = S) ∨ (z = 1 ∧ r ≤ crit ∧ shutB S u (crit - S 0 0) r))
theorem lp_P_shutBefore {r : Int} (ho : okP S) (hC : CX X R_P b_P_shutBefore 7 (some .boolean) 2) (hG : GP X) (r1 : -128 ≤ r) (r2 : r ≤ 127) (hd : ∀ a, 0 ≤ a → a < S 0 2 → S 8 a ≤ 48) (hp : ∀ z u, sbf S r z u → post z u) : ∀ (n : Nat) (k z : Int), 0 ≤ k → k ≤ S 0 2 → S 0 2 - k < n → critI S r k z → J X 7 (some .boolean) post S 5 [some (.ref (gA X 0)), some (vI r), some (vI z), some (vI k), none, none, none] [] := by
  intro n
  induction n with
  | zero => intro k z h1 h2 h3; omega
  | succ n ih =>
    intro k z h1 h2 h3 hI
    have hz1 := hI.1
    have hz2 := hI.2.1
    have hb := ho.1
    have hb2 := ho.2.2.1
    have hcn := cntW_bd S r (S 8 k) (S 0 2).toNat
    have hcr : k < S 0 2 → -128 ≤ ccr S r k ∧ ccr S r k ≤ 48 := fun h => ccr_bd ho (hd k h1 h)
    refine j_iload_n (pc := 5) hC d_P_shutBefore_5 rfl ?_
    refine j_aload_n (pc := 6) hC d_P_shutBefore_6 rfl ?_
    refine jp_gf_asked (pc := 7) hC hG d_P_shutBefore_7 (fun l7 u7 => ?_)
    refine j_icmp_ge (pc := 10) (tgt := 55) hC d_P_shutBefore_10 (by decide) (fun w10 => ?_) (fun w10 => ?_)
    · refine j_iload_n (pc := 55) hC d_P_shutBefore_55 rfl ?_
      refine j_iload_n (pc := 56) hC d_P_shutBefore_56 rfl ?_
      refine j_icmp_ge (pc := 57) (tgt := 62) hC d_P_shutBefore_57 (by decide) (fun w57 => ?_) (fun w57 => ?_)
      · refine j_iload_n (pc := 62) hC d_P_shutBefore_62 rfl ?_
        refine j_iload_n (pc := 63) hC d_P_shutBefore_63 rfl ?_
        refine j_aload_n (pc := 64) hC d_P_shutBefore_64 rfl ?_
        refine jp_gf_length (pc := 65) hC hG d_P_shutBefore_65 (fun l65 u65 => ?_)
        refine j_iadd (pc := 68) hC d_P_shutBefore_68 ?_
        refine j_icmp_ge (pc := 69) (tgt := 83) hC d_P_shutBefore_69 (by decide) (fun w69 => ?_) (fun w69 => ?_)
        · refine j_iconst (pc := 83) hC d_P_shutBefore_83 ?_
          exact j_zret (pc := 84) hC d_P_shutBefore_84 (hp _ _ ⟨z, by rw [show S 0 2 = k by omega]; exact hI, Or.inr ⟨rfl, by omega, fun _ _ _ => rfl, fun t => by rw [if_neg (by omega)]⟩⟩)
        · refine j_aload_n (pc := 72) hC d_P_shutBefore_72 rfl ?_
          refine j_iload_n (pc := 73) hC d_P_shutBefore_73 rfl ?_
          refine j_aload_n (pc := 74) hC d_P_shutBefore_74 rfl ?_
          refine jp_gf_length (pc := 75) hC hG d_P_shutBefore_75 (fun l75 u75 => ?_)
          refine j_isub (pc := 78) hC d_P_shutBefore_78 ?_
          refine j_iload_n (pc := 79) hC d_P_shutBefore_79 rfl ?_
          refine jp_callv2 (pc := 80) hC hG (cw_P_117 (by decide)) rfl d_P_shutBefore_80 (c_P_shutBetween S ho (z - S 0 0) r (by omega) (by omega) (by omega) (by omega)) (fun S80 p80 o80 => ?_)
          refine j_iconst (pc := 83) hC d_P_shutBefore_83 ?_
          exact j_zret (pc := 84) hC d_P_shutBefore_84 (hp _ _ ⟨z, by rw [show S 0 2 = k by omega]; exact hI, Or.inr ⟨rfl, by omega, p80⟩⟩)
      · refine j_iconst (pc := 60) hC d_P_shutBefore_60 ?_
        exact j_zret (pc := 61) hC d_P_shutBefore_61 (hp _ _ ⟨z, by rw [show S 0 2 = k by omega]; exact hI, Or.inl ⟨rfl, by omega, rfl⟩⟩)
    · refine j_aload_n (pc := 13) hC d_P_shutBefore_13 rfl ?_
      refine jp_gf_askUntil (pc := 14) hC hG d_P_shutBefore_14 ?_
      refine j_iload_n (pc := 17) hC d_P_shutBefore_17 rfl ?_
      refine jp_ld_askUntil (pc := 18) hC hG d_P_shutBefore_18 (fun l18 u18 => ?_)
      refine j_istore_4 (pc := 19) hC d_P_shutBefore_19 (by decide) ?_
      refine j_aload_n (pc := 21) hC d_P_shutBefore_21 rfl ?_
      refine j_iload_n (pc := 22) hC d_P_shutBefore_22 rfl ?_
      refine j_iload (pc := 23) hC d_P_shutBefore_23 rfl ?_
      refine jp_calli2 (pc := 25) hC hG (cw_P_120 (by decide)) rfl d_P_shutBefore_25 (c_P_countWithin S ho r (S 8 k) (by omega) (by omega) (by omega) (by omega)) (fun z25 S25 p25 o25 => ?_)
      refine J.eqs p25.1 ?_
      replace p25 := p25.2
      rw [p25]
      refine j_istore_5 (pc := 28) hC d_P_shutBefore_28 (by decide) ?_
      refine j_aload_n (pc := 30) hC d_P_shutBefore_30 rfl ?_
      refine j_iload (pc := 31) hC d_P_shutBefore_31 rfl ?_
      refine j_iload (pc := 33) hC d_P_shutBefore_33 rfl ?_
      refine jp_calli2 (pc := 35) hC hG (cw_P_123 (by decide)) rfl d_P_shutBefore_35 (c_P_backFrom S ho (S 8 k) (cntW S r (S 8 k) (S 0 2).toNat) (by omega) (hd k h1 (by omega)) (by omega) (by omega)) (fun z35 S35 p35 o35 => ?_)
      refine J.eqs p35.1 ?_
      replace p35 := p35.2
      replace p35 : z35 = ccr S r k := p35
      rw [p35]
      have hcr := hcr (by omega)
      refine j_istore_6 (pc := 38) hC d_P_shutBefore_38 (by decide) ?_
      refine j_iload (pc := 40) hC d_P_shutBefore_40 rfl ?_
      refine j_iload_n (pc := 42) hC d_P_shutBefore_42 rfl ?_
      refine j_icmp_ge (pc := 43) (tgt := 49) hC d_P_shutBefore_43 (by decide) (fun w43 => ?_) (fun w43 => ?_)
      · refine j_iinc_3 (pc := 49) hC d_P_shutBefore_49 (by decide) ?_
        refine j_goto (pc := 52) (tgt := 5) hC d_P_shutBefore_52 (by decide) ?_
        exact j_forget4 3 (ih (k + 1) _ (by omega) (by omega) (by omega) (crit_skip hI (by omega)))
      · refine j_iload (pc := 46) hC d_P_shutBefore_46 rfl ?_
        refine j_istore_2 (pc := 48) hC d_P_shutBefore_48 (by decide) ?_
        refine j_iinc_3 (pc := 49) hC d_P_shutBefore_49 (by decide) ?_
        refine j_goto (pc := 52) (tgt := 5) hC d_P_shutBefore_52 (by decide) ?_
        exact j_forget4 3 (ih (k + 1) _ (by omega) (by omega) (by omega) (crit_take hI h1 (by omega) (by omega)))
theorem c_P_shutBefore (S : St) (ho : okP S) (r : Int) (r1 : -128 ≤ r) (r2 : r ≤ 127) (hd : ∀ a, 0 ≤ a → a < S 0 2 → S 8 a ≤ 48) : Ct PW okP y_P_shutBefore b_P_shutBefore 7 (some .boolean) 2 [r] S (fun z u => sbf S r z u) := by
  refine Ct.of (by decide) (Nat.le_of_ble_eq_true rfl) ho (fun X hW hk hC => ?_)
  have hG : GP X := ⟨hW, hk⟩
  replace hC : CX X R_P b_P_shutBefore 7 (some .boolean) 2 := hC
  show J X 7 (some .boolean) _ S 0 [some (.ref (gA X 0)), some (vI r), none, none, none, none, none] []
  have hb := ho.2.2.1
  refine j_bipush (pc := 0) hC d_P_shutBefore_0 (by decide) ?_
  refine j_istore_2 (pc := 2) hC d_P_shutBefore_2 (by decide) ?_
  refine j_iconst (pc := 3) hC d_P_shutBefore_3 ?_
  refine j_istore_3 (pc := 4) hC d_P_shutBefore_4 (by decide) ?_
  exact lp_P_shutBefore ho hC hG r1 r2 hd (fun z u h => h) 10 0 _ (by omega) (by omega) (by omega) ⟨by omega, by omega, fun a _ _ => by omega, Or.inl rfl⟩
/-- shutBlocks() -/
def blkI (S U : St) (k : Int) : Prop := (∀ b j, b ≠ 10 → U b j = S b j) ∧ ∀ t, 0 ≤ t → t < 48 → (U 10 t = 1 ↔ ∃ j, 0 ≤ j ∧ j < k ∧ S 4 j = 1 ∧ S 5 j - S 0 0 < t ∧ t < S 6 j)
theorem blk_skip {U : St} {k : Int} (h : blkI S U k) (q : ¬ S 4 k = 1) : blkI S U (k + 1) := by
  refine ⟨h.1, fun t t1 t2 => (h.2 t t1 t2).trans ⟨?_, ?_⟩⟩
  · rintro ⟨j, j1, j2, j3⟩
    exact ⟨j, j1, by omega, j3⟩
  · rintro ⟨j, j1, j2, j3⟩
    rcases (show j < k ∨ j = k by omega) with e | rfl
    · exact ⟨j, j1, e, j3⟩
    · exact absurd j3.1 q
theorem blk_take {U V : St} {k : Int} (h : blkI S U k) (h0 : 0 ≤ k) (q : S 4 k = 1) (hs : shutB U V (S 5 k - S 0 0) (S 6 k)) : blkI S V (k + 1) := by
  refine ⟨fun b j e => by rw [hs.1 b j e]; exact h.1 b j e, fun t t1 t2 => ?_⟩
  rw [hs.2 t]
  by_cases e : 0 ≤ t ∧ S 5 k - S 0 0 < t ∧ t < S 6 k ∧ t < 48
  · rw [if_pos e]
    exact ⟨fun _ => ⟨k, h0, by omega, q, by omega, by omega⟩, fun _ => rfl⟩
  · rw [if_neg e, h.2 t t1 t2]
    constructor
    · rintro ⟨j, j1, j2, j3⟩
      exact ⟨j, j1, by omega, j3⟩
    · rintro ⟨j, j1, j2, j3⟩
      rcases (show j < k ∨ j = k by omega) with e2 | rfl
      · exact ⟨j, j1, e2, j3⟩
      · omega
theorem lp_P_shutBlocks2 (hC : CX X R_P b_P_shutBlocks 2 none 1) (hG : GP X) (hp : ∀ U, blkI S U 4 → post 0 U) : ∀ (n : Nat) (k : Int) (U : St), 0 ≤ k → k ≤ 4 → 4 - k < n → blkI S U k → J X 2 none post U 23 [some (.ref (gA X 0)), some (vI k)] [] := by
  intro n
  induction n with
  | zero => intro k U h1 h2 h3; omega
  | succ n ih =>
    intro k U h1 h2 h3 hI
    refine jp_ok hG (fun ho => ?_)
    have e00 := hI.1 0 0 (by decide)
    have e4 := hI.1 4 k (by decide)
    have e5 := hI.1 5 k (by decide)
    have e6 := hI.1 6 k (by decide)
    have hb := ho.1
    refine j_iload_n (pc := 23) hC d_P_shutBlocks_23 rfl ?_
    refine j_iconst (pc := 24) hC d_P_shutBlocks_24 ?_
    refine j_icmp_ge (pc := 25) (tgt := 64) hC d_P_shutBlocks_25 (by decide) (fun w25 => ?_) (fun w25 => ?_)
    · exact j_vret (pc := 64) hC d_P_shutBlocks_64 (hp U (by rw [show (4 : Int) = k by omega]; exact hI))
    · refine j_aload_n (pc := 28) hC d_P_shutBlocks_28 rfl ?_
      refine jp_gf_blockUsed (pc := 29) hC hG d_P_shutBlocks_29 ?_
      refine j_iload_n (pc := 32) hC d_P_shutBlocks_32 rfl ?_
      refine jp_ld_blockUsed (pc := 33) hC hG d_P_shutBlocks_33 (fun l33 u33 => ?_)
      refine j_if_eq (pc := 34) (tgt := 58) hC d_P_shutBlocks_34 (by decide) (fun w34 => ?_) (fun w34 => ?_)
      · refine j_iinc_1 (pc := 58) hC d_P_shutBlocks_58 (by decide) ?_
        refine j_goto (pc := 61) (tgt := 23) hC d_P_shutBlocks_61 (by decide) ?_
        exact ih (k + 1) U (by omega) (by omega) (by omega) (blk_skip hI (by omega))
      · refine j_aload_n (pc := 37) hC d_P_shutBlocks_37 rfl ?_
        refine j_aload_n (pc := 38) hC d_P_shutBlocks_38 rfl ?_
        refine jp_gf_blockFrom (pc := 39) hC hG d_P_shutBlocks_39 ?_
        refine j_iload_n (pc := 42) hC d_P_shutBlocks_42 rfl ?_
        refine jp_ld_blockFrom (pc := 43) hC hG d_P_shutBlocks_43 (fun l43 u43 => ?_)
        refine j_aload_n (pc := 44) hC d_P_shutBlocks_44 rfl ?_
        refine jp_gf_length (pc := 45) hC hG d_P_shutBlocks_45 (fun l45 u45 => ?_)
        refine j_isub (pc := 48) hC d_P_shutBlocks_48 ?_
        refine j_aload_n (pc := 49) hC d_P_shutBlocks_49 rfl ?_
        refine jp_gf_blockUntil (pc := 50) hC hG d_P_shutBlocks_50 ?_
        refine j_iload_n (pc := 53) hC d_P_shutBlocks_53 rfl ?_
        refine jp_ld_blockUntil (pc := 54) hC hG d_P_shutBlocks_54 (fun l54 u54 => ?_)
        refine jp_callv2 (pc := 55) hC hG (cw_P_117 (by decide)) rfl d_P_shutBlocks_55 (c_P_shutBetween U ho (U 5 k - U 0 0) (U 6 k) (by omega) (by omega) (by omega) (by omega)) (fun S55 p55 o55 => ?_)
        refine j_iinc_1 (pc := 58) hC d_P_shutBlocks_58 (by decide) ?_
        refine j_goto (pc := 61) (tgt := 23) hC d_P_shutBlocks_61 (by decide) ?_
        exact ih (k + 1) _ (by omega) (by omega) (by omega) (blk_take hI h1 (by omega) (by rw [e00, e5, e6] at p55; exact p55))
theorem lp_P_shutBlocks1 (hC : CX X R_P b_P_shutBlocks 2 none 1) (hG : GP X) (hp : ∀ U, blkI S U 4 → post 0 U) : ∀ (n : Nat) (t : Int) (U : St), 0 ≤ t → t ≤ 48 → 48 - t < n → (∀ b j, b ≠ 10 → U b j = S b j) → (∀ q, 0 ≤ q → q < t → U 10 q = 0) → J X 2 none post U 2 [some (.ref (gA X 0)), some (vI t)] [] := by
  intro n
  induction n with
  | zero => intro t U h1 h2 h3; omega
  | succ n ih =>
    intro t U h1 h2 h3 h4 h5
    refine j_iload_n (pc := 2) hC d_P_shutBlocks_2 rfl ?_
    refine j_bipush (pc := 3) hC d_P_shutBlocks_3 (by decide) ?_
    refine j_icmp_ge (pc := 5) (tgt := 21) hC d_P_shutBlocks_5 (by decide) (fun w5 => ?_) (fun w5 => ?_)
    · refine j_iconst (pc := 21) hC d_P_shutBlocks_21 ?_
      refine j_istore_1 (pc := 22) hC d_P_shutBlocks_22 (by decide) ?_
      exact lp_P_shutBlocks2 hC hG hp 10 0 U (by omega) (by omega) (by omega) ⟨h4, fun q q1 q2 => by
            rw [h5 q q1 (by omega)]
            exact ⟨fun z => by omega, fun ⟨j, j1, j2, _⟩ => by omega⟩⟩
    · refine j_aload_n (pc := 8) hC d_P_shutBlocks_8 rfl ?_
      refine jp_gf_shut (pc := 9) hC hG d_P_shutBlocks_9 ?_
      refine j_iload_n (pc := 12) hC d_P_shutBlocks_12 rfl ?_
      refine j_iconst (pc := 13) hC d_P_shutBlocks_13 ?_
      refine jp_st_shut (pc := 14) hC hG d_P_shutBlocks_14 ?_
      refine j_iinc_1 (pc := 15) hC d_P_shutBlocks_15 (by decide) ?_
      refine j_goto (pc := 18) (tgt := 2) hC d_P_shutBlocks_18 (by decide) ?_
      exact ih (t + 1) _ (by omega) (by omega) (by omega) (fun b j e => by rw [s2_ne (fun q => e q.1)]; exact h4 b j e) (fun q q1 q2 => by
            by_cases e : q = t
            · rw [e, s2_eq]
            · rw [s2_ne (fun z => e z.2)]; exact h5 q q1 (by omega))
theorem c_P_shutBlocks (S : St) (ho : okP S) : Ct PW okP y_P_shutBlocks b_P_shutBlocks 2 none 1 [] S (fun _ u => blkI S u 4) := by
  refine Ct.of (by decide) (Nat.le_of_ble_eq_true rfl) ho (fun X hW hk hC => ?_)
  have hG : GP X := ⟨hW, hk⟩
  replace hC : CX X R_P b_P_shutBlocks 2 none 1 := hC
  show J X 2 none _ S 0 [some (.ref (gA X 0)), none] []
  refine j_iconst (pc := 0) hC d_P_shutBlocks_0 ?_
  refine j_istore_1 (pc := 1) hC d_P_shutBlocks_1 (by decide) ?_
  exact lp_P_shutBlocks1 hC hG (fun U h => h) 60 0 S (by omega) (by omega) (by omega) (fun _ _ _ => rfl) (fun q _ _ => by omega)
end MidP
end
section
-- THE PLANNER: dispatch, as a trace (the latest step first: job, start)
theorem pig : ∀ (n : Nat) (K : List Int), (∀ i : Int, 0 ≤ i → i < n → i ∈ K) → n ≤ K.length := by
  intro n
  induction n with
  | zero => intro K _; omega
  | succ n ih =>
    intro K h
    have hm : (n : Int) ∈ K := h n (by omega) (by omega)
    have h1 := ih (K.erase (n : Int)) (fun i i1 i2 => (List.mem_erase_of_ne (by omega)).mpr (h i i1 (by omega)))
    rw [List.length_erase_of_mem hm] at h1
    have h2 := List.length_pos_of_mem hm
    omega
def unpl (r : List (Int × Int)) (i : Int) : Prop := ∀ q ∈ r, q.1 ≠ i
theorem unpl_cons {q : Int × Int} {r : List (Int × Int)} {i : Int} : unpl (q :: r) i ↔ q.1 ≠ i ∧ unpl r i := by
  unfold unpl
  simp only [List.mem_cons, forall_eq_or_imp]
theorem unpl_ex {r : List (Int × Int)} {n : Int} (h : (r.length : Int) < n) : ∃ i, 0 ≤ i ∧ i < n ∧ unpl r i := by
  refine Classical.byContradiction (fun hc => ?_)
  have h1 := pig n.toNat (r.map (·.1)) (fun i i1 i2 => by
    refine Classical.byContradiction (fun hm => hc ⟨i, i1, by omega, fun q hq e => hm ?_⟩)
    rw [← e]
    exact List.mem_map.mpr ⟨q, hq, rfl⟩)
  rw [List.length_map] at h1
  omega
def tmr (p : Int) : List (Int × Int) → Int
  | [] => 0
  | q :: _ => q.2 + p
def dStp (F D f : Int → Int) (p n : Int) (r : List (Int × Int)) (j s : Int) : Prop :=
  0 ≤ j ∧ j < n ∧ unpl r j ∧ F j ≤ s ∧ (∀ i, 0 ≤ i → i < n → unpl r i → F i ≤ s → D j ≤ D i) ∧ ∃ rd, (∀ i, 0 ≤ i → i < n → unpl r i → rd ≤ F i) ∧ (∃ i, 0 ≤ i ∧ i < n ∧ unpl r i ∧ F i = rd) ∧ isOaa f (max rd (tmr p r)) s
def dTr (F D f : Int → Int) (p n : Int) : List (Int × Int) → Prop
  | [] => True
  | q :: r => dTr F D f p n r ∧ dStp F D f p n r q.1 q.2 ∧ q.2 + p ≤ D q.1
theorem tmr_bd {F D f : Int → Int} {p n : Int} (p1 : 1 ≤ p) (hF : ∀ i, 0 ≤ i → i < n → 0 ≤ F i) (hD : ∀ i, 0 ≤ i → i < n → D i ≤ 40) : ∀ r, dTr F D f p n r → 0 ≤ tmr p r ∧ tmr p r ≤ 40
  | [], _ => by simp [tmr]
  | q :: r, h => by
    obtain ⟨-, ⟨j1, j2, -, j4, -⟩, h3⟩ := h
    have := hF q.1 j1 j2
    have := hD q.1 j1 j2
    show 0 ≤ q.2 + p ∧ q.2 + p ≤ 40
    omega
/-- the windows that are asked about are in order -/
def AskOk (S : St) : Prop := S 0 2 ≤ 7 ∧ ∀ a, 0 ≤ a → a < S 0 2 → 0 ≤ S 7 a ∧ S 7 a ≤ 40 ∧ 0 ≤ S 8 a ∧ S 8 a ≤ 40
def dispI (S U : St) (k t : Int) : Prop := (∀ b j, b ≠ 9 → U b j = S b j) ∧ ∃ r, (r.length : Int) = k ∧ dTr (S 7) (S 8) (S 10) (S 0 0) (S 0 2) r ∧ t = tmr (S 0 0) r ∧ ∀ i, 0 ≤ i → i < S 0 2 → (U 9 i = 0 ↔ unpl r i)
def dispQ (S : St) (z : Int) (u : St) : Prop := (∀ b j, b ≠ 9 → ¬ (b = 0 ∧ j = 3) → u b j = S b j) ∧
  ((z = 1 ∧ ∃ r, (r.length : Int) = S 0 2 ∧ dTr (S 7) (S 8) (S 10) (S 0 0) (S 0 2) r ∧ u 0 3 = tmr (S 0 0) r) ∨
   (z = 0 ∧ ∃ r j s, (r.length : Int) < S 0 2 ∧ dTr (S 7) (S 8) (S 10) (S 0 0) (S 0 2) r ∧ dStp (S 7) (S 8) (S 10) (S 0 0) (S 0 2) r j s ∧ S 8 j < s + S 0 0))
theorem disp_step {S U : St} {k t rd s j : Int} {r : List (Int × Int)} (ha : AskOk S) (hU : ∀ b j, b ≠ 9 → U b j = S b j) (hl : (r.length : Int) = k) (hk : k < S 0 2) (ht : t = tmr (S 0 0) r) (hpl : ∀ i, 0 ≤ i → i < S 0 2 → (U 9 i = 0 ↔ unpl r i))
    (h1 : lwrI U (U 0 2) rd) (h2 : isOaa (U 10) (max rd t) s) (h3 : muI U s (U 0 2) j) : dStp (S 7) (S 8) (S 10) (S 0 0) (S 0 2) r j s := by
  have e7 : U 7 = S 7 := funext (fun i => hU 7 i (by decide))
  have e8 : U 8 = S 8 := funext (fun i => hU 8 i (by decide))
  have e10 : U 10 = S 10 := funext (fun i => hU 10 i (by decide))
  have e2 : U 0 2 = S 0 2 := hU 0 2 (by decide)
  rw [e10] at h2
  unfold lwrI at h1
  unfold muI at h3
  rw [e7, e2] at h1
  rw [e7, e8, e2] at h3
  obtain ⟨i0, a1, a2, a3⟩ := unpl_ex (r := r) (n := S 0 2) (by omega)
  obtain ⟨-, -, l3, l4⟩ := h1
  have hrd : ∃ i, 0 ≤ i ∧ i < S 0 2 ∧ unpl r i ∧ S 7 i = rd := by
    rcases l4 with rfl | ⟨a, b1, b2, b3, b4⟩
    · have := l3 i0 a1 a2 ((hpl i0 a1 a2).mpr a3)
      have := (ha.2 i0 a1 a2).2.1
      omega
    · exact ⟨a, b1, b2, (hpl a b1 b2).mp b3, b4⟩
  have hs : rd ≤ s := by have := h2.1; omega
  rcases h3 with ⟨-, h3⟩ | ⟨q1, q2, q3, q4, q5⟩
  · obtain ⟨i, b1, b2, b3, b4⟩ := hrd
    have := h3 i b1 b2 ((hpl i b1 b2).mpr b3)
    omega
  · exact ⟨q1, q2, (hpl j q1 q2).mp q3, q4, fun i i1 i2 i3 i4 => q5 i i1 i2 ((hpl i i1 i2).mpr i3) i4, rd, fun i i1 i2 i3 => l3 i i1 i2 ((hpl i i1 i2).mpr i3), hrd, by rw [← ht]; exact h2⟩
section DispP
variable {X : Cx} {S : St} {post : Int → St → Prop}
theorem lp_P_dispatch2 (ha : AskOk S) (hC : CX X R_P b_P_dispatch 5 (some .boolean) 1) (hG : GP X) (hp : ∀ z u, dispQ S z u → post z u) : ∀ (n : Nat) (k t : Int) (U : St), 0 ≤ k → k ≤ S 0 2 → S 0 2 - k < n → dispI S U k t → J X 5 (some .boolean) post U 27 [some (.ref (gA X 0)), some (vI t), some (vI k), none, none] [] := by
  intro n
  induction n with
  | zero => intro k t U h1 h2 h3; omega
  | succ n ih =>
    intro k t U h1 h2 h3 hI
    refine jp_ok hG (fun ho => ?_)
    obtain ⟨hU, r, hl, hT, ht, hpl⟩ := id hI
    have hb := ho.1
    have e00 := hU 0 0 (by decide)
    have e02 := hU 0 2 (by decide)
    have hbt := tmr_bd (p := S 0 0) (by omega) (fun i i1 i2 => (ha.2 i i1 i2).1) (fun i i1 i2 => (ha.2 i i1 i2).2.2.2) r hT
    rw [← ht] at hbt
    have hn7 := ha.1
    refine j_iload_n (pc := 27) hC d_P_dispatch_27 rfl ?_
    refine j_aload_n (pc := 28) hC d_P_dispatch_28 rfl ?_
    refine jp_gf_asked (pc := 29) hC hG d_P_dispatch_29 (fun l29 u29 => ?_)
    refine j_icmp_ge (pc := 32) (tgt := 106) hC d_P_dispatch_32 (by decide) (fun w32 => ?_) (fun w32 => ?_)
    · refine j_aload_n (pc := 106) hC d_P_dispatch_106 rfl ?_
      refine j_iload_n (pc := 107) hC d_P_dispatch_107 rfl ?_
      refine jp_pf_lastEnd (pc := 108) hC hG d_P_dispatch_108 ?_
      refine j_iconst (pc := 111) hC d_P_dispatch_111 ?_
      exact j_zret (pc := 112) hC d_P_dispatch_112 (hp _ _ ⟨fun b j e e2 => by rw [s2_ne e2]; exact hU b j e, Or.inl ⟨rfl, r, by omega, hT, by rw [s2_eq]; exact ht⟩⟩)
    · refine j_aload_n (pc := 35) hC d_P_dispatch_35 rfl ?_
      refine jp_calli0 (pc := 36) hC hG (cw_P_129 (by decide)) rfl d_P_dispatch_36 (c_P_leastWaitingRelease U ho) (fun rd S36 p36 o36 => ?_)
      refine J.eqs p36.1 ?_
      replace p36 := p36.2
      have m1 := p36.1
      have m2 := p36.2.1
      refine j_istore_3 (pc := 39) hC d_P_dispatch_39 (by decide) ?_
      refine j_aload_n (pc := 40) hC d_P_dispatch_40 rfl ?_
      refine j_iload_n (pc := 41) hC d_P_dispatch_41 rfl ?_
      refine j_iload_n (pc := 42) hC d_P_dispatch_42 rfl ?_
      refine j_icmp_le (pc := 43) (tgt := 50) hC d_P_dispatch_43 (by decide) (fun w43 => ?_) (fun w43 => ?_)
      · refine j_iload_n (pc := 50) hC d_P_dispatch_50 rfl ?_
        refine jp_calli1 (pc := 51) hC hG (cw_P_132 (by decide)) rfl d_P_dispatch_51 (c_P_openAtOrAfter U ho t (by omega) (by omega)) (fun s S51 p51 o51 => ?_)
        refine J.eqs p51.1 ?_
        replace p51 := p51.2
        have m3 := p51.1
        have m4 := p51.2.1
        replace p51 : isOaa (U 10) (max rd t) s := by rw [show max rd t = t by omega]; exact p51
        refine j_istore_1 (pc := 54) hC d_P_dispatch_54 (by decide) ?_
        refine j_aload_n (pc := 55) hC d_P_dispatch_55 rfl ?_
        refine j_iload_n (pc := 56) hC d_P_dispatch_56 rfl ?_
        refine jp_calli1 (pc := 57) hC hG (cw_P_135 (by decide)) rfl d_P_dispatch_57 (c_P_mostUrgent U ho s (by omega) (by omega)) (fun jx S57 p57 o57 => ?_)
        refine J.eqs p57.1 ?_
        replace p57 := p57.2
        have hst := disp_step ha hU hl (by omega) ht hpl p36 p51 p57
        have m5 := hst.1
        have m6 := hst.2.1
        have e8 := hU 8 jx (by decide)
        refine j_istore_4 (pc := 60) hC d_P_dispatch_60 (by decide) ?_
        refine j_iload (pc := 62) hC d_P_dispatch_62 rfl ?_
        refine j_if_lt (pc := 64) (tgt := 83) hC d_P_dispatch_64 (by decide) (fun w64 => ?_) (fun w64 => ?_)
        · exact False.elim (by omega)
        · refine j_iload_n (pc := 67) hC d_P_dispatch_67 rfl ?_
          refine j_aload_n (pc := 68) hC d_P_dispatch_68 rfl ?_
          refine jp_gf_length (pc := 69) hC hG d_P_dispatch_69 (fun l69 u69 => ?_)
          refine j_iadd (pc := 72) hC d_P_dispatch_72 ?_
          refine j_aload_n (pc := 73) hC d_P_dispatch_73 rfl ?_
          refine jp_gf_askUntil (pc := 74) hC hG d_P_dispatch_74 ?_
          refine j_iload (pc := 77) hC d_P_dispatch_77 rfl ?_
          refine jp_ld_askUntil (pc := 79) hC hG d_P_dispatch_79 (fun l79 u79 => ?_)
          refine j_icmp_le (pc := 80) (tgt := 85) hC d_P_dispatch_80 (by decide) (fun w80 => ?_) (fun w80 => ?_)
          · refine j_aload_n (pc := 85) hC d_P_dispatch_85 rfl ?_
            refine jp_gf_placed (pc := 86) hC hG d_P_dispatch_86 ?_
            refine j_iload (pc := 89) hC d_P_dispatch_89 rfl ?_
            refine j_iconst (pc := 91) hC d_P_dispatch_91 ?_
            refine jp_st_placed (pc := 92) hC hG d_P_dispatch_92 ?_
            refine j_iload_n (pc := 93) hC d_P_dispatch_93 rfl ?_
            refine j_aload_n (pc := 94) hC d_P_dispatch_94 rfl ?_
            refine jp_gf_length (pc := 95) hC hG d_P_dispatch_95 (fun l95 u95 => ?_)
            refine j_iadd (pc := 98) hC d_P_dispatch_98 ?_
            refine j_istore_1 (pc := 99) hC d_P_dispatch_99 (by decide) ?_
            refine j_iinc_2 (pc := 100) hC d_P_dispatch_100 (by decide) ?_
            refine j_goto (pc := 103) (tgt := 27) hC d_P_dispatch_103 (by decide) ?_
            refine j_forget3 2 (ih (k + 1) _ _ (by omega) (by omega) (by omega) ⟨fun b j e => by rw [s2_ne (fun q => e q.1)]; exact hU b j e, (jx, s) :: r, by simp only [List.length_cons]; omega, ⟨hT, hst, by show s + S 0 0 ≤ S 8 jx; omega⟩, ?_, fun i i1 i2 => ?_⟩)
            · show s + s2 U 9 jx 1 0 0 = s + S 0 0
              rw [s2_ne (by rintro ⟨q, -⟩; cases q), e00]
            · rw [unpl_cons, ← hpl i i1 i2]
              by_cases e : i = jx
              · rw [e, s2_eq]; exact ⟨fun z => by omega, fun z => absurd rfl z.1⟩
              · rw [s2_ne (fun z => e z.2)]; exact ⟨fun z => ⟨fun y => e y.symm, z⟩, fun z => z.2⟩
          · refine j_iconst (pc := 83) hC d_P_dispatch_83 ?_
            exact j_zret (pc := 84) hC d_P_dispatch_84 (hp _ _ ⟨fun b j e _ => hU b j e, Or.inr ⟨rfl, r, jx, s, by omega, hT, hst, by omega⟩⟩)
      · refine j_iload_n (pc := 46) hC d_P_dispatch_46 rfl ?_
        refine j_goto (pc := 47) (tgt := 51) hC d_P_dispatch_47 (by decide) ?_
        refine jp_calli1 (pc := 51) hC hG (cw_P_132 (by decide)) rfl d_P_dispatch_51 (c_P_openAtOrAfter U ho rd (by omega) (by omega)) (fun s S51 p51 o51 => ?_)
        refine J.eqs p51.1 ?_
        replace p51 := p51.2
        have m3 := p51.1
        have m4 := p51.2.1
        replace p51 : isOaa (U 10) (max rd t) s := by rw [show max rd t = rd by omega]; exact p51
        refine j_istore_1 (pc := 54) hC d_P_dispatch_54 (by decide) ?_
        refine j_aload_n (pc := 55) hC d_P_dispatch_55 rfl ?_
        refine j_iload_n (pc := 56) hC d_P_dispatch_56 rfl ?_
        refine jp_calli1 (pc := 57) hC hG (cw_P_135 (by decide)) rfl d_P_dispatch_57 (c_P_mostUrgent U ho s (by omega) (by omega)) (fun jx S57 p57 o57 => ?_)
        refine J.eqs p57.1 ?_
        replace p57 := p57.2
        have hst := disp_step ha hU hl (by omega) ht hpl p36 p51 p57
        have m5 := hst.1
        have m6 := hst.2.1
        have e8 := hU 8 jx (by decide)
        refine j_istore_4 (pc := 60) hC d_P_dispatch_60 (by decide) ?_
        refine j_iload (pc := 62) hC d_P_dispatch_62 rfl ?_
        refine j_if_lt (pc := 64) (tgt := 83) hC d_P_dispatch_64 (by decide) (fun w64 => ?_) (fun w64 => ?_)
        · exact False.elim (by omega)
        · refine j_iload_n (pc := 67) hC d_P_dispatch_67 rfl ?_
          refine j_aload_n (pc := 68) hC d_P_dispatch_68 rfl ?_
          refine jp_gf_length (pc := 69) hC hG d_P_dispatch_69 (fun l69 u69 => ?_)
          refine j_iadd (pc := 72) hC d_P_dispatch_72 ?_
          refine j_aload_n (pc := 73) hC d_P_dispatch_73 rfl ?_
          refine jp_gf_askUntil (pc := 74) hC hG d_P_dispatch_74 ?_
          refine j_iload (pc := 77) hC d_P_dispatch_77 rfl ?_
          refine jp_ld_askUntil (pc := 79) hC hG d_P_dispatch_79 (fun l79 u79 => ?_)
          refine j_icmp_le (pc := 80) (tgt := 85) hC d_P_dispatch_80 (by decide) (fun w80 => ?_) (fun w80 => ?_)
          · refine j_aload_n (pc := 85) hC d_P_dispatch_85 rfl ?_
            refine jp_gf_placed (pc := 86) hC hG d_P_dispatch_86 ?_
            refine j_iload (pc := 89) hC d_P_dispatch_89 rfl ?_
            refine j_iconst (pc := 91) hC d_P_dispatch_91 ?_
            refine jp_st_placed (pc := 92) hC hG d_P_dispatch_92 ?_
            refine j_iload_n (pc := 93) hC d_P_dispatch_93 rfl ?_
            refine j_aload_n (pc := 94) hC d_P_dispatch_94 rfl ?_
            refine jp_gf_length (pc := 95) hC hG d_P_dispatch_95 (fun l95 u95 => ?_)
            refine j_iadd (pc := 98) hC d_P_dispatch_98 ?_
            refine j_istore_1 (pc := 99) hC d_P_dispatch_99 (by decide) ?_
            refine j_iinc_2 (pc := 100) hC d_P_dispatch_100 (by decide) ?_
            refine j_goto (pc := 103) (tgt := 27) hC d_P_dispatch_103 (by decide) ?_
            refine j_forget3 2 (ih (k + 1) _ _ (by omega) (by omega) (by omega) ⟨fun b j e => by rw [s2_ne (fun q => e q.1)]; exact hU b j e, (jx, s) :: r, by simp only [List.length_cons]; omega, ⟨hT, hst, by show s + S 0 0 ≤ S 8 jx; omega⟩, ?_, fun i i1 i2 => ?_⟩)
            · show s + s2 U 9 jx 1 0 0 = s + S 0 0
              rw [s2_ne (by rintro ⟨q, -⟩; cases q), e00]
            · rw [unpl_cons, ← hpl i i1 i2]
              by_cases e : i = jx
              · rw [e, s2_eq]; exact ⟨fun z => by omega, fun z => absurd rfl z.1⟩
              · rw [s2_ne (fun z => e z.2)]; exact ⟨fun z => ⟨fun y => e y.symm, z⟩, fun z => z.2⟩
          · refine j_iconst (pc := 83) hC d_P_dispatch_83 ?_
            exact j_zret (pc := 84) hC d_P_dispatch_84 (hp _ _ ⟨fun b j e _ => hU b j e, Or.inr ⟨rfl, r, jx, s, by omega, hT, hst, by omega⟩⟩)
theorem lp_P_dispatch1 (ha : AskOk S) (hC : CX X R_P b_P_dispatch 5 (some .boolean) 1) (hG : GP X) (hp : ∀ z u, dispQ S z u → post z u) : ∀ (n : Nat) (k : Int) (U : St), 0 ≤ k → k ≤ S 0 2 → S 0 2 - k < n → (∀ b j, b ≠ 9 → U b j = S b j) → (∀ i, 0 ≤ i → i < k → U 9 i = 0) → J X 5 (some .boolean) post U 2 [some (.ref (gA X 0)), some (vI k), none, none, none] [] := by
  intro n
  induction n with
  | zero => intro k U h1 h2 h3; omega
  | succ n ih =>
    intro k U h1 h2 h3 h4 h5
    have e02 := h4 0 2 (by decide)
    have hn7 := ha.1
    refine j_iload_n (pc := 2) hC d_P_dispatch_2 rfl ?_
    refine j_aload_n (pc := 3) hC d_P_dispatch_3 rfl ?_
    refine jp_gf_asked (pc := 4) hC hG d_P_dispatch_4 (fun l4 u4 => ?_)
    refine j_icmp_ge (pc := 7) (tgt := 23) hC d_P_dispatch_7 (by decide) (fun w7 => ?_) (fun w7 => ?_)
    · refine j_iconst (pc := 23) hC d_P_dispatch_23 ?_
      refine j_istore_1 (pc := 24) hC d_P_dispatch_24 (by decide) ?_
      refine j_iconst (pc := 25) hC d_P_dispatch_25 ?_
      refine j_istore_2 (pc := 26) hC d_P_dispatch_26 (by decide) ?_
      exact lp_P_dispatch2 ha hC hG hp 10 0 0 U (by omega) (by omega) (by omega) ⟨h4, [], rfl, trivial, rfl, fun i i1 i2 => ⟨fun _ q h => (by cases h), fun _ => h5 i i1 (by omega)⟩⟩
    · refine j_aload_n (pc := 10) hC d_P_dispatch_10 rfl ?_
      refine jp_gf_placed (pc := 11) hC hG d_P_dispatch_11 ?_
      refine j_iload_n (pc := 14) hC d_P_dispatch_14 rfl ?_
      refine j_iconst (pc := 15) hC d_P_dispatch_15 ?_
      refine jp_st_placed (pc := 16) hC hG d_P_dispatch_16 ?_
      refine j_iinc_1 (pc := 17) hC d_P_dispatch_17 (by decide) ?_
      refine j_goto (pc := 20) (tgt := 2) hC d_P_dispatch_20 (by decide) ?_
      exact ih (k + 1) _ (by omega) (by omega) (by omega) (fun b j e => by rw [s2_ne (fun q => e q.1)]; exact h4 b j e) (fun q q1 q2 => by
            by_cases e : q = k
            · rw [e, s2_eq]
            · rw [s2_ne (fun z => e z.2)]; exact h5 q q1 (by omega))
theorem c_P_dispatch (S : St) (ho : okP S) (ha : AskOk S) : Ct PW okP y_P_dispatch b_P_dispatch 5 (some .boolean) 1 [] S (fun z u => dispQ S z u) := by
  refine Ct.of (by decide) (Nat.le_of_ble_eq_true rfl) ho (fun X hW hk hC => ?_)
  have hG : GP X := ⟨hW, hk⟩
  replace hC : CX X R_P b_P_dispatch 5 (some .boolean) 1 := hC
  show J X 5 (some .boolean) _ S 0 [some (.ref (gA X 0)), none, none, none, none] []
  have hb := ho.2.2.1
  refine j_iconst (pc := 0) hC d_P_dispatch_0 ?_
  refine j_istore_1 (pc := 1) hC d_P_dispatch_1 (by decide) ?_
  exact lp_P_dispatch1 ha hC hG (fun z u h => h) 10 0 S (by omega) (by omega) (by omega) (fun _ _ _ => rfl) (fun q _ _ => by omega)
end DispP
end
section
-- THE PLAIN LAW OF THE FORBIDDEN REGIONS
def Plan (P : Int → Prop) (p : Int) (F D : Int → Int) (ok : Int → Prop) (s : Int → Int) : Prop := (∀ i, P i → F i ≤ s i ∧ s i + p ≤ D i ∧ ok (s i)) ∧ ∀ i j, P i → P j → i ≠ j → s i + p ≤ s j ∨ s j + p ≤ s i
def ixn (n : Int) : Int → Prop := fun i => 0 ≤ i ∧ i < n
-- counting
theorem cnt_list (S : St) (r d : Int) : ∀ n : Nat, ∃ K : List Int, K.Nodup ∧ (K.length : Int) = cntW S r d n ∧ ∀ i ∈ K, 0 ≤ i ∧ i < n ∧ r ≤ S 7 i ∧ S 8 i ≤ d := by
  intro n
  induction n with
  | zero => exact ⟨[], List.nodup_nil, rfl, fun i h => by cases h⟩
  | succ n ih =>
    obtain ⟨K, h1, h2, h3⟩ := ih
    by_cases e : r ≤ S 7 n ∧ S 8 n ≤ d
    · refine ⟨(n : Int) :: K, List.nodup_cons.mpr ⟨fun h => ?_, h1⟩, ?_, fun i hi => ?_⟩
      · have := (h3 _ h).2.1
        omega
      · rw [cntW, if_pos e, ← h2, List.length_cons]
        omega
      · rcases List.mem_cons.mp hi with rfl | hi
        · exact ⟨by omega, by omega, e⟩
        · obtain ⟨a, b, c⟩ := h3 i hi
          exact ⟨a, by omega, c⟩
    · refine ⟨K, h1, ?_, fun i hi => ?_⟩
      · rw [cntW, if_neg e, ← h2]
      · obtain ⟨a, b, c⟩ := h3 i hi
        exact ⟨a, by omega, c⟩
theorem cnt_ge (S : St) (r d : Int) : ∀ (n : Nat) (K : List Int), K.Nodup → (∀ i ∈ K, 0 ≤ i ∧ i < n ∧ r ≤ S 7 i ∧ S 8 i ≤ d) → (K.length : Int) ≤ cntW S r d n := by
  intro n
  induction n with
  | zero =>
    intro K _ h
    cases K with
    | nil => simp [cntW]
    | cons i K => have := h i List.mem_cons_self; omega
  | succ n ih =>
    intro K h1 h2
    by_cases hm : (n : Int) ∈ K
    · have h3 := ih (K.erase (n : Int)) (h1.erase _) (fun i hi => by
        obtain ⟨e1, e2⟩ := (h1.mem_erase_iff).mp hi
        obtain ⟨a, b, c⟩ := h2 i e2
        exact ⟨a, by omega, c⟩)
      rw [List.length_erase_of_mem hm] at h3
      have h4 := List.length_pos_of_mem hm
      rw [cntW, if_pos (h2 _ hm).2.2]
      omega
    · have h3 := ih K h1 (fun i hi => by
        obtain ⟨a, b, c⟩ := h2 i hi
        have : i ≠ n := fun e => hm (e ▸ hi)
        exact ⟨a, by omega, c⟩)
      rw [cntW]
      split <;> omega
theorem cnt_full (S : St) (r d : Int) : ∀ (n : Nat), cntW S r d n = n → ∀ i : Int, 0 ≤ i → i < n → r ≤ S 7 i ∧ S 8 i ≤ d := by
  intro n
  induction n with
  | zero => intro _ i h1 h2; omega
  | succ n ih =>
    intro h i h1 h2
    have hb := cntW_bd S r d n
    rw [cntW] at h
    split at h
    · rename_i q
      rcases (show i < n ∨ i = n by omega) with e | rfl
      · exact ih (by omega) i h1 e
      · exact q
    · omega
theorem pig2 {K : List Int} {n : Nat} (h1 : K.Nodup) (h2 : ∀ i ∈ K, 0 ≤ i ∧ i < n) : K.length ≤ n := by
  have h := cnt_ge (fun _ _ => 0) 0 0 n K h1 (fun i hi => ⟨(h2 i hi).1, (h2 i hi).2, by omega, by omega⟩)
  have := cntW_bd (fun _ _ => 0) 0 0 n
  omega
-- packing backwards
theorem oab_spec (f : Int → Int) (t : Int) : (0 ≤ oab f t → f (oab f t) = 0) ∧ ∀ q, 0 ≤ q → q ≤ t → f q = 0 → q ≤ oab f t := by
  have h : ∀ n : Nat, (0 ≤ oabN f n → f (oabN f n) = 0) ∧ ∀ q : Int, 0 ≤ q → q < n → f q = 0 → q ≤ oabN f n := by
    intro n
    induction n with
    | zero => exact ⟨fun h => by simp [oabN] at h, fun q q1 q2 => by omega⟩
    | succ n ih =>
      unfold oabN
      split
      · rename_i e
        exact ⟨fun _ => e, fun q q1 q2 _ => by omega⟩
      · rename_i e
        refine ⟨ih.1, fun q q1 q2 q3 => ?_⟩
        rcases (show q < n ∨ q = n by omega) with h | rfl
        · exact ih.2 q q1 h q3
        · exact absurd q3 e
  have h2 := h (t + 1).toNat
  exact ⟨h2.1, fun q q1 q2 q3 => h2.2 q q1 (by omega) q3⟩
theorem bk_ge1 (f : Int → Int) (p d : Int) : ∀ m : Nat, 1 ≤ m → -1 ≤ bk f p d m
  | 0, h => by omega
  | m + 1, _ => (oab_bd f _).1
theorem bk_anti {f : Int → Int} {p d : Int} (p1 : 0 ≤ p) : ∀ (m k : Nat), 1 ≤ m → bk f p d (m + k) ≤ bk f p d m
  | m, 0, _ => Int.le_refl _
  | m, k + 1, h => by
    have h1 := bk_anti (f := f) (d := d) p1 m k h
    have h2 := oab_bd f (bk f p d (m + k) - p)
    have h3 := bk_ge1 f p d (m + k) (by omega)
    show oab f (bk f p d (m + k) - p) ≤ _
    omega
theorem bk_anti' {f : Int → Int} {p d : Int} (p1 : 0 ≤ p) {m k : Nat} (h : 1 ≤ m) (hk : m ≤ k) : bk f p d k ≤ bk f p d m := by
  have := bk_anti (f := f) (d := d) p1 m (k - m) h
  rw [show m + (k - m) = k by omega] at this
  exact this
theorem bk_shift (f : Int → Int) (p d : Int) : ∀ m : Nat, bk f p (oab f (d - p)) m = bk f p d (m + 1)
  | 0 => rfl
  | m + 1 => by
    show oab f (bk f p (oab f (d - p)) m - p) = oab f (bk f p d (m + 1) - p)
    rw [bk_shift f p d m]
theorem bk_agree {f g : Int → Int} {p d r : Int} (r0 : 0 ≤ r) (p1 : 0 ≤ p) (d1 : d ≤ 48) (h : ∀ t, r ≤ t → t < 48 → f t = g t) (p2 : 1 ≤ p) : ∀ m : Nat, r ≤ bk g p d m → bk f p d m = bk g p d m
  | 0, _ => rfl
  | m + 1, hr => by
    have h1 := oab_bd g (bk g p d m - p)
    have hr' : r ≤ oab g (bk g p d m - p) := hr
    have hm : bk g p d m ≤ 48 := by
      cases m with
      | zero => exact d1
      | succ m =>
        have h9 : ∀ k : Nat, bk g p d (k + 1) ≤ 48 := by
          intro k
          induction k with
          | zero => have := oab_bd g (d - p); show oab g (d - p) ≤ 48; omega
          | succ k ih => have := oab_bd g (bk g p d (k + 1) - p); show oab g (bk g p d (k + 1) - p) ≤ 48; omega
        exact h9 m
    have ih := bk_agree r0 p1 d1 h p2 m (by omega)
    show oab f (bk f p d m - p) = oab g (bk g p d m - p)
    rw [ih]
    have hg := oab_spec g (bk g p d m - p)
    have hf := oab_spec f (bk g p d m - p)
    have hf1 := oab_bd f (bk g p d m - p)
    have e1 := hf.2 (oab g (bk g p d m - p)) (by omega) (by omega) (by rw [h _ (by omega) (by omega)]; exact hg.1 (by omega))
    have e2 := hg.2 (oab f (bk g p d m - p)) (by omega) (by omega) (by rw [← h _ (by omega) (by omega)]; exact hf.1 (by omega))
    omega
theorem max_in (s : Int → Int) : ∀ K : List Int, K ≠ [] → ∃ i ∈ K, ∀ j ∈ K, s j ≤ s i
  | [], h => absurd rfl h
  | [a], _ => ⟨a, List.mem_cons_self, fun j hj => by
      rcases List.mem_cons.mp hj with rfl | hj
      · omega
      · cases hj⟩
  | a :: b :: K, _ => by
    obtain ⟨i, h1, h2⟩ := max_in s (b :: K) (by simp)
    by_cases e : s i ≤ s a
    · refine ⟨a, List.mem_cons_self, fun j hj => ?_⟩
      rcases List.mem_cons.mp hj with rfl | hj
      · omega
      · have := h2 j hj; omega
    · refine ⟨i, List.mem_cons_of_mem _ h1, fun j hj => ?_⟩
      rcases List.mem_cons.mp hj with rfl | hj
      · omega
      · exact h2 j hj
theorem min_in (s : Int → Int) (K : List Int) (h : K ≠ []) : ∃ i ∈ K, ∀ j ∈ K, s i ≤ s j := by
  obtain ⟨i, h1, h2⟩ := max_in (fun a => - s a) K h
  exact ⟨i, h1, fun j hj => by have : - s j ≤ - s i := h2 j hj; omega⟩
/-- of jobs that all end by d, apart, at open times, the first starts no later than the packing backwards says -/
theorem back_first {s f : Int → Int} {p : Int} (p1 : 1 ≤ p) : ∀ (m : Nat) (K : List Int) (d : Int), K.length = m → K ≠ [] → K.Nodup → (∀ i ∈ K, 0 ≤ s i ∧ s i + p ≤ d ∧ f (s i) = 0) → (∀ i ∈ K, ∀ j ∈ K, i ≠ j → s i + p ≤ s j ∨ s j + p ≤ s i) → ∃ i ∈ K, s i ≤ bk f p d m := by
  intro m
  induction m with
  | zero => intro K d h1 h2; exact absurd (List.length_eq_zero_iff.mp h1) h2
  | succ m ih =>
    intro K d h1 h2 h3 h4 h5
    obtain ⟨i, i1, i2⟩ := max_in s K h2
    obtain ⟨a1, a2, a3⟩ := h4 i i1
    have hs := (oab_spec f (d - p)).2 (s i) a1 (by omega) a3
    have hl : (K.erase i).length = m := by rw [List.length_erase_of_mem i1]; omega
    by_cases e : K.erase i = []
    · rw [e] at hl
      have : m = 0 := hl.symm
      subst this
      exact ⟨i, i1, hs⟩
    · obtain ⟨j, j1, j2⟩ := ih (K.erase i) (oab f (d - p)) hl e (h3.erase _) (fun j hj => by
        obtain ⟨e1, e2⟩ := (h3.mem_erase_iff).mp hj
        obtain ⟨b1, b2, b3⟩ := h4 j e2
        have := i2 j e2
        have := h5 i i1 j e2 (fun q => e1 q.symm)
        exact ⟨b1, by omega, b3⟩) (fun x hx y hy hxy => h5 x ((h3.mem_erase_iff).mp hx).2 y ((h3.mem_erase_iff).mp hy).2 hxy)
      exact ⟨j, ((h3.mem_erase_iff).mp j1).2, by rw [← bk_shift]; exact j2⟩
-- the regions
/-- the latest first start, packed over g -/
def ccg (S : St) (g : Int → Int) (r a : Int) : Int := if cntW S r (S 8 a) (S 0 2).toNat = 0 then 41 else bk g (S 0 0) (S 8 a) (cntW S r (S 8 a) (S 0 2).toNat).toNat
def Reg (S : St) (f : Int → Int) (r : Int) : Prop := ∃ (g : Int → Int) (crit : Int), (∀ t, r ≤ t → t < 48 → f t = g t) ∧ r ≤ crit ∧ (∀ a, 0 ≤ a → a < S 0 2 → crit ≤ ccg S g r a) ∧ ∀ t, 0 ≤ t → crit - S 0 0 < t → t < r → f t = 1
theorem cnt_ge1 {S : St} {r d : Int} {K : List Int} (h1 : K.Nodup) (h2 : ∀ i ∈ K, ixn (S 0 2) i ∧ r ≤ S 7 i ∧ S 8 i ≤ d) : (K.length : Int) ≤ cntW S r d (S 0 2).toNat :=
  cnt_ge S r d _ K h1 (fun i hi => by
    obtain ⟨⟨a, b⟩, c⟩ := h2 i hi
    exact ⟨a, by omega, c⟩)
/-- a region's packing is no later than any block of jobs of its kind allows -/
theorem reg_le {S : St} {g : Int → Int} {r a crit : Int} {K : List Int} (p1 : 0 ≤ S 0 0) (ha : ixn (S 0 2) a) (hc : ∀ a, 0 ≤ a → a < S 0 2 → crit ≤ ccg S g r a) (h0 : K ≠ []) (h1 : K.Nodup) (h2 : ∀ i ∈ K, ixn (S 0 2) i ∧ r ≤ S 7 i ∧ S 8 i ≤ S 8 a) : crit ≤ bk g (S 0 0) (S 8 a) K.length := by
  have hn := cnt_ge1 h1 h2
  have hl := List.length_pos_iff.mpr h0
  have h3 := hc a ha.1 ha.2
  unfold ccg at h3
  rw [if_neg (by omega)] at h3
  have h4 := bk_anti' (f := g) (p := S 0 0) (d := S 8 a) p1 (m := K.length) (k := (cntW S r (S 8 a) (S 0 2).toNat).toNat) (by omega) (by omega)
  omega
theorem oab_lt {f : Int → Int} {T t s : Int} (h : isOaa f T s) (h0 : 0 ≤ T) (hs : t < s) : oab f t < T := by
  refine Classical.byContradiction (fun hc => ?_)
  have h1 := oab_bd f t
  have h2 := (oab_spec f t).1 (by omega)
  have h3 := h.2.2.1 (oab f t) (by omega) (by omega)
  omega
section Law
variable {S : St} {f : Int → Int}
/-- no job comes too late: the heart of the law -/
theorem no_late (p1 : 1 ≤ S 0 0) (ha : AskOk S) (hreg : ∀ i, ixn (S 0 2) i → Reg S f (S 7 i)) {a : Int} (hi : ixn (S 0 2) a) : ∀ (r : List (Int × Int)) (K : List Int), dTr (S 7) (S 8) f (S 0 0) (S 0 2) r → K ≠ [] → K.Nodup → (∀ i ∈ K, ixn (S 0 2) i ∧ unpl r i ∧ S 8 i ≤ S 8 a) →
    ∀ rd, (∀ i, 0 ≤ i → i < S 0 2 → unpl r i → rd ≤ S 7 i) → (∃ i, 0 ≤ i ∧ i < S 0 2 ∧ unpl r i ∧ S 7 i = rd) → bk f (S 0 0) (S 8 a) K.length < max rd (tmr (S 0 0) r) → False := by
  have idle : ∀ (r : List (Int × Int)) (K : List Int), K ≠ [] → K.Nodup → (∀ i ∈ K, ixn (S 0 2) i ∧ unpl r i ∧ S 8 i ≤ S 8 a) →
    ∀ rd, (∀ i, 0 ≤ i → i < S 0 2 → unpl r i → rd ≤ S 7 i) → (∃ i, 0 ≤ i ∧ i < S 0 2 ∧ unpl r i ∧ S 7 i = rd) → bk f (S 0 0) (S 8 a) K.length < rd → False := by
    intro r K h1 h2 h3 rd h4 h5 h6
    obtain ⟨i, i1, i2, i3, i4⟩ := h5
    obtain ⟨g, crit, g1, g2, g3, g4⟩ := hreg i ⟨i1, i2⟩
    rw [i4] at g1 g2 g3 g4
    have h7 := reg_le (by omega) hi g3 h1 h2 (fun x hx => by
      obtain ⟨b1, b2, b3⟩ := h3 x hx
      exact ⟨b1, h4 x b1.1 b1.2 b2, b3⟩)
    have h8 := bk_agree (f := f) (g := g) (p := S 0 0) (d := S 8 a) (r := rd) (by rw [← i4]; exact (ha.2 i i1 i2).1) (by omega) (by have := (ha.2 a hi.1 hi.2).2.2.2; omega) g1 p1 K.length (by omega)
    omega
  intro r
  induction r with
  | nil =>
    intro K _ h1 h2 h3 rd h4 h5 h6
    refine idle [] K h1 h2 h3 rd h4 h5 ?_
    obtain ⟨i, i1, i2, i3, i4⟩ := h5
    have := (ha.2 i i1 i2).1
    simp only [tmr] at h6
    omega
  | cons q r ih =>
    intro K hT h1 h2 h3 rd h4 h5 h6
    by_cases e : rd ≤ tmr (S 0 0) (q :: r)
    · obtain ⟨hT1, ⟨j1, j2, j3, j4, j5, rd', m1, m2, m3⟩, hT3⟩ := hT
      have h6' : bk f (S 0 0) (S 8 a) K.length < q.2 + S 0 0 := by
        simp only [tmr] at h6 e
        omega
      have hs0 : 0 ≤ q.2 := by have := (ha.2 q.1 j1 j2).1; omega
      by_cases e2 : S 8 q.1 ≤ S 8 a
      · refine ih (q.1 :: K) hT1 (by simp) (List.nodup_cons.mpr ⟨fun hm => (unpl_cons.mp (h3 _ hm).2.1).1 rfl, h2⟩) (fun i hi => ?_) rd' m1 m2 ?_
        · rcases List.mem_cons.mp hi with rfl | hi
          · exact ⟨⟨j1, j2⟩, j3, e2⟩
          · obtain ⟨b1, b2, b3⟩ := h3 i hi
            exact ⟨b1, (unpl_cons.mp b2).2, b3⟩
        · rw [List.length_cons]
          show oab f (bk f (S 0 0) (S 8 a) K.length - S 0 0) < _
          refine oab_lt m3 ?_ (by omega)
          obtain ⟨i, i1, i2, i3, i4⟩ := m2
          have := (ha.2 i i1 i2).1
          omega
      · obtain ⟨i0, k1, k2⟩ := min_in (S 7) K h1
        obtain ⟨c1, c2, c3⟩ := h3 i0 k1
        have hlt : q.2 < S 7 i0 := by
          refine Classical.byContradiction (fun hc => ?_)
          have := j5 i0 c1.1 c1.2 (unpl_cons.mp c2).2 (by omega)
          omega
        obtain ⟨g, crit, g1, g2, g3, g4⟩ := hreg i0 c1
        have h7 := reg_le (by omega) hi g3 h1 h2 (fun x hx => by
          obtain ⟨b1, b2, b3⟩ := h3 x hx
          exact ⟨b1, k2 x hx, b3⟩)
        have hF := ha.2 i0 c1.1 c1.2
        have h8 := bk_agree (f := f) (g := g) (p := S 0 0) (d := S 8 a) (r := S 7 i0) (by omega) (by omega) (by have := (ha.2 a hi.1 hi.2).2.2.2; omega) g1 p1 K.length (by omega)
        have h9 := g4 q.2 hs0 (by omega) hlt
        have h10 := m3.2.2.2 (by omega)
        omega
    · refine idle (q :: r) K h1 h2 h3 rd h4 h5 ?_
      omega
/-- a plan cannot end sooner than the trace -/
theorem no_early (p1 : 1 ≤ S 0 0) (ha : AskOk S) {s : Int → Int} {d : Int} (hs : ∀ i, ixn (S 0 2) i → S 7 i ≤ s i ∧ s i + S 0 0 ≤ d ∧ f (s i) = 0) (hap : ∀ i j, ixn (S 0 2) i → ixn (S 0 2) j → i ≠ j → s i + S 0 0 ≤ s j ∨ s j + S 0 0 ≤ s i) :
    ∀ (r : List (Int × Int)) (K : List Int), dTr (S 7) (S 8) f (S 0 0) (S 0 2) r → K ≠ [] → K.Nodup → (∀ i ∈ K, ixn (S 0 2) i ∧ unpl r i) →
    ∀ rd, (∀ i, 0 ≤ i → i < S 0 2 → unpl r i → rd ≤ S 7 i) → (∃ i, 0 ≤ i ∧ i < S 0 2 ∧ unpl r i ∧ S 7 i = rd) → bk f (S 0 0) d K.length < max rd (tmr (S 0 0) r) → False := by
  have idle : ∀ (r : List (Int × Int)) (K : List Int), K ≠ [] → K.Nodup → (∀ i ∈ K, ixn (S 0 2) i ∧ unpl r i) →
    ∀ rd, (∀ i, 0 ≤ i → i < S 0 2 → unpl r i → rd ≤ S 7 i) → bk f (S 0 0) d K.length < rd → False := by
    intro r K h1 h2 h3 rd h4 h6
    obtain ⟨i, i1, i2⟩ := back_first (s := s) (f := f) p1 K.length K d rfl h1 h2 (fun i hi => by
      obtain ⟨b1, b2⟩ := h3 i hi
      obtain ⟨c1, c2, c3⟩ := hs i b1
      have := (ha.2 i b1.1 b1.2).1
      exact ⟨by omega, c2, c3⟩) (fun i hi j hj => hap i j (h3 i hi).1 (h3 j hj).1)
    obtain ⟨b1, b2⟩ := h3 i i1
    have := h4 i b1.1 b1.2 b2
    have := (hs i b1).1
    omega
  intro r
  induction r with
  | nil =>
    intro K _ h1 h2 h3 rd h4 h5 h6
    refine idle [] K h1 h2 h3 rd h4 ?_
    obtain ⟨i, i1, i2, i3, i4⟩ := h5
    have := (ha.2 i i1 i2).1
    simp only [tmr] at h6
    omega
  | cons q r ih =>
    intro K hT h1 h2 h3 rd h4 h5 h6
    by_cases e : rd ≤ tmr (S 0 0) (q :: r)
    · obtain ⟨hT1, ⟨j1, j2, j3, j4, j5, rd', m1, m2, m3⟩, hT3⟩ := hT
      have h6' : bk f (S 0 0) d K.length < q.2 + S 0 0 := by
        simp only [tmr] at h6 e
        omega
      refine ih (q.1 :: K) hT1 (by simp) (List.nodup_cons.mpr ⟨fun hm => (unpl_cons.mp (h3 _ hm).2).1 rfl, h2⟩) (fun i hi => ?_) rd' m1 m2 ?_
      · rcases List.mem_cons.mp hi with rfl | hi
        · exact ⟨⟨j1, j2⟩, j3⟩
        · obtain ⟨b1, b2⟩ := h3 i hi
          exact ⟨b1, (unpl_cons.mp b2).2⟩
      · rw [List.length_cons]
        show oab f (bk f (S 0 0) d K.length - S 0 0) < _
        refine oab_lt m3 ?_ (by omega)
        obtain ⟨i, i1, i2, i3, i4⟩ := m2
        have := (ha.2 i i1 i2).1
        omega
    · refine idle (q :: r) K h1 h2 h3 rd h4 ?_
      omega
/-- the plan that a trace is -/
def trS : List (Int × Int) → Int → Int
  | [], _ => 0
  | q :: r, i => if i = q.1 then q.2 else trS r i
theorem tr_plan (p1 : 1 ≤ S 0 0) (ha : AskOk S) : ∀ r, dTr (S 7) (S 8) f (S 0 0) (S 0 2) r → (∀ i, ixn (S 0 2) i → ¬ unpl r i → S 7 i ≤ trS r i ∧ trS r i + S 0 0 ≤ S 8 i ∧ f (trS r i) = 0 ∧ trS r i + S 0 0 ≤ tmr (S 0 0) r) ∧
    ∀ i j, ixn (S 0 2) i → ixn (S 0 2) j → ¬ unpl r i → ¬ unpl r j → i ≠ j → trS r i + S 0 0 ≤ trS r j ∨ trS r j + S 0 0 ≤ trS r i := by
  intro r
  induction r with
  | nil => intro _; exact ⟨fun i _ h => absurd (fun q hq => by cases hq) h, fun i j _ _ h => absurd (fun q hq => by cases hq) h⟩
  | cons q r ih =>
    intro hT
    obtain ⟨hT1, ⟨j1, j2, j3, j4, j5, rd', m1, m2, m3⟩, hT3⟩ := hT
    obtain ⟨h1, h2⟩ := ih hT1
    have hq : tmr (S 0 0) r ≤ q.2 := by have := m3.1; omega
    have hD := (ha.2 q.1 j1 j2).2.2.2
    have split : ∀ i, ¬ unpl (q :: r) i → i = q.1 ∨ (i ≠ q.1 ∧ ¬ unpl r i) := by
      intro i hi
      by_cases e : i = q.1
      · exact Or.inl e
      · exact Or.inr ⟨e, fun hu => hi (unpl_cons.mpr ⟨fun z => e z.symm, hu⟩)⟩
    refine ⟨fun i hi hu => ?_, fun i j hi hj hui huj hij => ?_⟩
    · rcases split i hu with rfl | ⟨e, hu⟩
      · simp only [trS, if_true, tmr]
        exact ⟨j4, hT3, m3.2.2.2 (by omega), Int.le_refl _⟩
      · simp only [trS, if_neg e, tmr]
        obtain ⟨c1, c2, c3, c4⟩ := h1 i hi hu
        exact ⟨c1, c2, c3, by omega⟩
    · rcases split i hui with rfl | ⟨e, hu⟩
      · rcases split j huj with rfl | ⟨e2, hu2⟩
        · exact absurd rfl hij
        · have := (h1 j hj hu2).2.2.2
          simp only [trS, if_true, if_neg e2]
          right; omega
      · rcases split j huj with rfl | ⟨e2, hu2⟩
        · have := (h1 i hi hu).2.2.2
          simp only [trS, if_true, if_neg e]
          left; omega
        · simp only [trS, if_neg e, if_neg e2]
          exact h2 i j hi hj hu hu2 hij
theorem tr_nodup : ∀ r, dTr (S 7) (S 8) f (S 0 0) (S 0 2) r → (r.map (·.1)).Nodup ∧ ∀ i ∈ r.map (·.1), ixn (S 0 2) i
  | [], _ => ⟨List.nodup_nil, fun i h => by cases h⟩
  | q :: r, h => by
    obtain ⟨h1, h2⟩ := tr_nodup r h.1
    obtain ⟨j1, j2, j3, -⟩ := h.2.1
    refine ⟨List.nodup_cons.mpr ⟨fun hm => ?_, h1⟩, fun i hi => ?_⟩
    · obtain ⟨x, x1, x2⟩ := List.mem_map.mp hm
      exact j3 x x1 x2
    · rcases List.mem_cons.mp hi with rfl | hi
      · exact ⟨j1, j2⟩
      · exact h2 i hi
theorem tr_all {r : List (Int × Int)} (h : dTr (S 7) (S 8) f (S 0 0) (S 0 2) r) (hl : (r.length : Int) = S 0 2) {i : Int} (hi : ixn (S 0 2) i) : ¬ unpl r i := by
  intro hu
  obtain ⟨h1, h2⟩ := tr_nodup r h
  have h3 := pig2 (K := i :: r.map (·.1)) (n := (S 0 2).toNat) (List.nodup_cons.mpr ⟨fun hm => by
    obtain ⟨x, x1, x2⟩ := List.mem_map.mp hm
    exact hu x x1 x2, h1⟩) (fun x hx => by
    rcases List.mem_cons.mp hx with rfl | hx
    · exact ⟨hi.1, by have := hi.2; omega⟩
    · have := h2 x hx
      exact ⟨this.1, by have := this.2; omega⟩)
  rw [List.length_cons, List.length_map] at h3
  have := hi.1
  have := hi.2
  omega
-- soundness of the shut starts
def Snd (S : St) (ok : Int → Prop) (f : Int → Int) : Prop := ∀ s, Plan (ixn (S 0 2)) (S 0 0) (S 7) (S 8) ok s → ∀ i, ixn (S 0 2) i → f (s i) = 0
theorem first_by {ok : Int → Prop} (p1 : 1 ≤ S 0 0) (ha : AskOk S) (hsnd : Snd S ok f) {r crit a0 : Int} (h0 : ixn (S 0 2) a0) (hr : S 7 a0 = r) (hc : ∀ a, 0 ≤ a → a < S 0 2 → crit ≤ ccg S f r a) (hc2 : crit = 41 ∨ ∃ a, 0 ≤ a ∧ a < S 0 2 ∧ crit = ccg S f r a)
    {s : Int → Int} (hs : Plan (ixn (S 0 2)) (S 0 0) (S 7) (S 8) ok s) : ∃ i, ixn (S 0 2) i ∧ r ≤ S 7 i ∧ s i ≤ crit := by
  have hD0 := (ha.2 a0 h0.1 h0.2).2.2.2
  have h1 := reg_le (K := [a0]) (a := a0) (r := r) (by omega) h0 hc (by simp) (by simp) (fun i hi => by
    rcases List.mem_cons.mp hi with rfl | hi
    · exact ⟨h0, by omega, by omega⟩
    · cases hi)
  have h2 := oab_bd f (S 8 a0 - S 0 0)
  have h3 : crit ≤ 40 := by
    have : bk f (S 0 0) (S 8 a0) [a0].length = oab f (S 8 a0 - S 0 0) := rfl
    omega
  rcases hc2 with e | ⟨a, a1, a2, a3⟩
  · omega
  · unfold ccg at a3
    split at a3
    · omega
    · rename_i hne
      have hcb := cntW_bd S r (S 8 a) (S 0 2).toNat
      obtain ⟨K, k1, k2, k3⟩ := cnt_list S r (S 8 a) (S 0 2).toNat
      have hl : K.length = (cntW S r (S 8 a) (S 0 2).toNat).toNat := by omega
      have hx : ∀ i ∈ K, ixn (S 0 2) i := fun i hi => ⟨(k3 i hi).1, by have := (k3 i hi).2.1; omega⟩
      obtain ⟨i, i1, i2⟩ := back_first (s := s) (f := f) p1 _ K (S 8 a) hl (fun e => by rw [e] at k2; simp only [List.length_nil] at k2; omega) k1 (fun i hi => by
        obtain ⟨b1, b2, b3⟩ := hs.1 i (hx i hi)
        have := (ha.2 i (hx i hi).1 (hx i hi).2).1
        have := (k3 i hi).2.2.2
        exact ⟨by omega, by omega, hsnd s hs i (hx i hi)⟩) (fun i hi j hj => hs.2 i j (hx i hi) (hx j hj))
      exact ⟨i, hx i i1, (k3 i i1).2.2.1, by omega⟩
end Law
end
section
-- THE PLANNER: feasible()
def okS (S : St) (t : Int) : Prop := 0 ≤ t ∧ t + S 0 0 ≤ 40 ∧ ∀ k, 0 ≤ k → k < 4 → S 4 k = 1 → ¬ (S 5 k - S 0 0 < t ∧ t < S 6 k)
def PlanP (S : St) (s : Int → Int) : Prop := Plan (ixn (S 0 2)) (S 0 0) (S 7) (S 8) (okS S) s
def feaI (S U : St) (rnd above : Int) : Prop := (∀ b j, b ≠ 10 → U b j = S b j) ∧ Snd S (okS S) (U 10) ∧ (∀ t, 0 ≤ t → t < 48 → U 10 t = 0 → ∀ k, 0 ≤ k → k < 4 → S 4 k = 1 → ¬ (S 5 k - S 0 0 < t ∧ t < S 6 k)) ∧ (∀ i, ixn (S 0 2) i → above ≤ S 7 i → Reg S (U 10) (S 7 i)) ∧ rnd ≤ cntW S above 127 (S 0 2).toNat ∧ 0 ≤ above ∧ above ≤ 41
def feasQ (S : St) (z : Int) (u : St) : Prop := (∀ b j, b ≠ 9 → b ≠ 10 → ¬ (b = 0 ∧ j = 3) → u b j = S b j) ∧
  ((z = 1 ∧ 0 ≤ u 0 3 ∧ (∃ s, PlanP S s ∧ ∀ i, ixn (S 0 2) i → s i + S 0 0 ≤ u 0 3) ∧ ∀ s d, PlanP S s → 0 ≤ d → (∀ i, ixn (S 0 2) i → s i + S 0 0 ≤ d) → u 0 3 ≤ d) ∨ (z = 0 ∧ ∀ s, ¬ PlanP S s))
theorem fea_0 {S U : St} (ho : okP U) (ha : AskOk S) (h : blkI S U 4) : feaI S U 0 41 := by
  refine ⟨h.1, fun s hs i hi => ?_, fun t t1 t2 t3 k k1 k2 k3 k4 => ?_, fun i hi h1 => ?_, (cntW_bd _ _ _ _).1, by omega, by omega⟩
  · obtain ⟨-, -, c1, c2, c3⟩ := hs.1 i hi
    have hb := ho.2.2.2.2.2.2.2.2.2.2.2.2.2.2.1 (s i)
    have hb0 := ho.1
    have e0 := h.1 0 0 (by decide)
    refine Classical.byContradiction (fun hc => ?_)
    obtain ⟨j, j1, j2, j3, j4⟩ := (h.2 (s i) c1 (by omega)).mp (by omega)
    exact c3 j j1 j2 j3 j4
  · have := (h.2 t t1 t2).mpr ⟨k, k1, k2, k3, k4⟩
    omega
  · have := (ha.2 i hi.1 hi.2).2.1
    omega
theorem cntW_congr {S U : St} (h7 : U 7 = S 7) (h8 : U 8 = S 8) (r d : Int) : ∀ n : Nat, cntW U r d n = cntW S r d n
  | 0 => rfl
  | n + 1 => by rw [cntW, cntW, cntW_congr h7 h8 r d n, h7, h8]
theorem ccr_ccg {S U : St} (h : ∀ b j, b ≠ 10 → U b j = S b j) (r a : Int) : ccr U r a = ccg S (U 10) r a := by
  unfold ccr bkc ccg
  rw [cntW_congr (funext (fun i => h 7 i (by decide))) (funext (fun i => h 8 i (by decide))), h 8 a (by decide), h 0 2 (by decide), h 0 0 (by decide)]
theorem fea_no {S U : St} {rnd above r crit : Int} (p1 : 1 ≤ S 0 0) (ha : AskOk S) (hI : feaI S U rnd above) (hg : grbI U above (U 0 2) r) (hr : 0 ≤ r) (hc : critI U r (U 0 2) crit) : (∃ a0, ixn (S 0 2) a0 ∧ S 7 a0 = r ∧ r < above) ∧ ∀ s, PlanP S s → ∃ i, ixn (S 0 2) i ∧ r ≤ S 7 i ∧ s i ≤ crit := by
  obtain ⟨hU, hs, -⟩ := hI
  have e2 := hU 0 2 (by decide)
  obtain ⟨-, -, -, hg4⟩ := hg
  obtain ⟨-, -, c3, c4⟩ := hc
  rcases hg4 with e | ⟨a0, a1, a2, a3, a4⟩
  · omega
  · rw [hU 7 a0 (by decide)] at a3
    rw [e2] at a2 c3 c4
    refine ⟨⟨a0, ⟨a1, a2⟩, a3, a4⟩, fun s hp => first_by p1 ha hs ⟨a1, a2⟩ a3 (fun a b1 b2 => by rw [← ccr_ccg hU]; exact c3 a b1 b2) ?_ hp⟩
    rcases c4 with e | ⟨a, b1, b2, b3⟩
    · exact Or.inl e
    · exact Or.inr ⟨a, b1, b2, by rw [← ccr_ccg hU]; exact b3⟩
theorem fea_step {S U V : St} {rnd above r crit : Int} (ho : okP V) (ho2 : okP S) (ha : AskOk S) (hI : feaI S U rnd above) (hg : grbI U above (U 0 2) r) (hr : 0 ≤ r) (hc : critI U r (U 0 2) crit) (hrc : r ≤ crit) (hV : shutB U V (crit - U 0 0) r) : feaI S V (rnd + 1) r := by
  have p1 := ho2.1.1
  obtain ⟨⟨a0, h0, h1, h2⟩, hf⟩ := fea_no p1 ha hI hg hr hc
  obtain ⟨hU, hs, hb, hR, hn, ab1, ab2⟩ := hI
  have e0 := hU 0 0 (by decide)
  have e2 := hU 0 2 (by decide)
  rw [e0] at hV
  have hF := ha.2 a0 h0.1 h0.2
  refine ⟨fun b j e => by rw [hV.1 b j e]; exact hU b j e, fun s hp i hi => ?_, fun t t1 t2 t3 => hb t t1 t2 ?_, fun i hi h3 => ?_, ?_, by omega, by omega⟩
  · rw [hV.2]
    split
    · rename_i q
      exfalso
      obtain ⟨x, x1, x2, x3⟩ := hf s hp
      have hx := (hp.1 x x1).1
      by_cases e : x = i
      · subst e; omega
      · have := hp.2 x i x1 hi e
        omega
    · exact hs s hp i hi
  · rw [hV.2] at t3
    split at t3
    · omega
    · exact t3
  · by_cases e : S 7 i = r
    · refine ⟨U 10, crit, fun t t1 t2 => ?_, by omega, fun a a1 a2 => ?_, fun t t1 t2 t3 => ?_⟩
      · rw [hV.2, if_neg (by omega)]
      · rw [e, ← ccr_ccg hU]
        exact hc.2.2.1 a a1 (by omega)
      · rw [hV.2, if_pos (by omega)]
    · have h4 : above ≤ S 7 i := by
        refine Classical.byContradiction (fun hc => ?_)
        have := hg.2.2.1 i hi.1 (by rw [e2]; exact hi.2) (by rw [hU 7 i (by decide)]; omega)
        rw [hU 7 i (by decide)] at this
        omega
      obtain ⟨g, cr, g1, g2, g3, g4⟩ := hR i hi h4
      refine ⟨g, cr, fun t t1 t2 => ?_, g2, g3, fun t t1 t2 t3 => ?_⟩
      · rw [hV.2, if_neg (by omega)]
        exact g1 t t1 t2
      · rw [hV.2]
        split
        · rfl
        · exact g4 t t1 t2 t3
  · obtain ⟨K, k1, k2, k3⟩ := cnt_list S above 127 (S 0 2).toNat
    have := cnt_ge S r 127 (S 0 2).toNat (a0 :: K) (List.nodup_cons.mpr ⟨fun hm => by have := (k3 a0 hm).2.2.1; omega, k1⟩) (fun i hi => by
      rcases List.mem_cons.mp hi with rfl | hi
      · exact ⟨h0.1, by have := h0.2; omega, by omega, (ho2.2.2.2.2.2.2.2.2.2.2.2.2.1 i).2⟩
      · obtain ⟨b1, b2, b3, b4⟩ := k3 i hi
        exact ⟨b1, b2, by omega, b4⟩)
    rw [List.length_cons] at this
    omega
theorem fea_fin {S U u : St} {rnd above z : Int} (ho : okP S) (hou : okP u) (ha : AskOk S) (hI : feaI S U rnd above) (hall : ∀ i, ixn (S 0 2) i → above ≤ S 7 i) (hd : dispQ U z u) : feasQ S z u := by
  obtain ⟨hU, hs, hb, hR, -⟩ := hI
  have p1 := ho.1.1
  have e7 : U 7 = S 7 := funext (fun i => hU 7 i (by decide))
  have e8 : U 8 = S 8 := funext (fun i => hU 8 i (by decide))
  have e0 := hU 0 0 (by decide)
  have e2 := hU 0 2 (by decide)
  unfold dispQ at hd
  rw [e7, e8, e0, e2] at hd
  obtain ⟨hd1, hd2⟩ := hd
  refine ⟨fun b j b1 b2 b3 => by rw [hd1 b j b1 b3]; exact hU b j b2, ?_⟩
  rcases hd2 with ⟨rfl, r, hl, hT, ht⟩ | ⟨rfl, r, j, s, hl, hT, hS, hlate⟩
  · left
    have hpl := tr_plan p1 ha r hT
    refine ⟨rfl, hou.2.2.2.1.1, ⟨trS r, ⟨fun i hi => ?_, fun i j hi hj hij => hpl.2 i j hi hj (tr_all hT hl hi) (tr_all hT hl hj) hij⟩, fun i hi => ?_⟩, fun s d hp h0 hsd => ?_⟩
    · obtain ⟨c1, c2, c3, c4⟩ := hpl.1 i hi (tr_all hT hl hi)
      have hF := ha.2 i hi.1 hi.2
      exact ⟨c1, c2, by omega, by omega, hb _ (by omega) (by omega) c3⟩
    · rw [ht]
      exact (hpl.1 i hi (tr_all hT hl hi)).2.2.2
    · rw [ht]
      refine Classical.byContradiction (fun hc => ?_)
      cases r with
      | nil => simp only [tmr] at hc; omega
      | cons q r =>
        obtain ⟨hT1, ⟨j1, j2, j3, j4, j5, rd, m1, m2, m3⟩, hT3⟩ := hT
        simp only [tmr] at hc
        refine no_early (f := U 10) (d := d) p1 ha (s := s) (fun i hi => ⟨(hp.1 i hi).1, hsd i hi, hs s hp i hi⟩) hp.2 r [q.1] hT1 (by simp) (by simp) (fun i hi => ?_) rd m1 m2 ?_
        · rcases List.mem_cons.mp hi with rfl | hi
          · exact ⟨⟨j1, j2⟩, j3⟩
          · cases hi
        · show oab (U 10) (d - S 0 0) < _
          refine oab_lt m3 ?_ (by omega)
          obtain ⟨i, i1, i2, i3, i4⟩ := m2
          have := (ha.2 i i1 i2).1
          omega
  · exfalso
    obtain ⟨j1, j2, j3, j4, j5, rd, m1, m2, m3⟩ := hS
    refine no_late (f := U 10) p1 ha (fun i hi => hR i hi (hall i hi)) (a := j) ⟨j1, j2⟩ r [j] hT (by simp) (by simp) (fun i hi => ?_) rd m1 m2 ?_
    · rcases List.mem_cons.mp hi with rfl | hi
      · exact ⟨⟨j1, j2⟩, j3, Int.le_refl _⟩
      · cases hi
    · show oab (U 10) (S 8 j - S 0 0) < _
      refine oab_lt m3 ?_ (by omega)
      obtain ⟨i, i1, i2, i3, i4⟩ := m2
      have := (ha.2 i i1 i2).1
      omega
theorem AskOk.of {S U : St} (h : AskOk S) (hU : ∀ b j, b ≠ 10 → U b j = S b j) : AskOk U := by
  refine ⟨by rw [hU 0 2 (by decide)]; exact h.1, fun a a1 a2 => ?_⟩
  rw [hU 0 2 (by decide)] at a2
  rw [hU 7 a (by decide), hU 8 a (by decide)]
  exact h.2 a a1 a2
section FeasP
variable {X : Cx} {S : St} {post : Int → St → Prop}
theorem lp_P_feasible (hoS : okP S) (ha : AskOk S) (hC : CX X R_P b_P_feasible 4 (some .boolean) 3) (hG : GP X) (hp : ∀ z u, feasQ S z u → post z u) : ∀ (n : Nat) (rnd above : Int) (U : St), 0 ≤ rnd → 8 - rnd < n → feaI S U rnd above → J X 4 (some .boolean) post U 9 [some (.ref (gA X 0)), some (vI above), some (vI rnd), none] [] := by
  intro n
  induction n with
  | zero =>
    intro rnd above U h1 h2 hI
    have := cntW_bd S above 127 (S 0 2).toNat
    have := hI.2.2.2.2.1
    have := ha.1
    omega
  | succ n ih =>
    intro rnd above U h1 h2 hI
    refine jp_ok hG (fun ho => ?_)
    have hcb := cntW_bd S above 127 (S 0 2).toNat
    have hn := hI.2.2.2.2.1
    have h7 := ha.1
    have ab1 := hI.2.2.2.2.2.1
    have ab2 := hI.2.2.2.2.2.2
    have hU := hI.1
    have e2 := hU 0 2 (by decide)
    have p1 := hoS.1.1
    have haU := ha.of hU
    refine j_iload_n (pc := 9) hC d_P_feasible_9 rfl ?_
    refine j_bipush (pc := 10) hC d_P_feasible_10 (by decide) ?_
    refine j_icmp_ge (pc := 12) (tgt := 48) hC d_P_feasible_12 (by decide) (fun w12 => ?_) (fun w12 => ?_)
    · exact False.elim (by omega)
    · refine j_aload_n (pc := 15) hC d_P_feasible_15 rfl ?_
      refine j_iload_n (pc := 16) hC d_P_feasible_16 rfl ?_
      refine jp_calli1 (pc := 17) hC hG (cw_P_107 (by decide)) rfl d_P_feasible_17 (c_P_greatestReleaseBelow U ho above (by omega) (by omega)) (fun r S17 p17 o17 => ?_)
      refine J.eqs p17.1 ?_
      replace p17 := p17.2
      have m1 := p17.1
      have m2 := p17.2.1
      refine j_istore_3 (pc := 20) hC d_P_feasible_20 (by decide) ?_
      refine j_iload_n (pc := 21) hC d_P_feasible_21 rfl ?_
      refine j_if_ge (pc := 22) (tgt := 30) hC d_P_feasible_22 (by decide) (fun w22 => ?_) (fun w22 => ?_)
      · refine j_aload_n (pc := 30) hC d_P_feasible_30 rfl ?_
        refine j_iload_n (pc := 31) hC d_P_feasible_31 rfl ?_
        refine jp_calli1 (pc := 32) hC hG (cw_P_114 (by decide)) rfl d_P_feasible_32 (c_P_shutBefore U ho r (by omega) (by omega) (fun a a1 a2 => by have := (haU.2 a a1 a2).2.2.2; omega)) (fun z V p32 o32 => ?_)
        obtain ⟨crit, hc, hz⟩ := p32
        have hz01 : z = 0 ∨ z = 1 := by rcases hz with q | q; (left; exact q.1); (right; exact q.1)
        refine j_if_ne (pc := 35) (tgt := 40) hC d_P_feasible_35 (by decide) (fun w35 => ?_) (fun w35 => ?_)
        · refine j_iload_n (pc := 40) hC d_P_feasible_40 rfl ?_
          refine j_istore_1 (pc := 41) hC d_P_feasible_41 (by decide) ?_
          refine j_iinc_2 (pc := 42) hC d_P_feasible_42 (by decide) ?_
          refine j_goto (pc := 45) (tgt := 9) hC d_P_feasible_45 (by decide) ?_
          exact j_forget3 1 (ih (rnd + 1) r V (by omega) (by omega) (by rcases hz with ⟨q1, q2, q3⟩ | ⟨q1, q2, q3⟩; (omega); (exact fea_step o32 hoS ha hI p17 (by omega) hc q2 q3)))
        · refine j_iconst (pc := 38) hC d_P_feasible_38 ?_
          exact j_zret (pc := 39) hC d_P_feasible_39 (by
                  rcases hz with ⟨q1, q2, q3⟩ | ⟨q1, q2, q3⟩
                  · refine hp _ _ ⟨fun b j b1 b2 b3 => by rw [q3]; exact hU b j b2, Or.inr ⟨rfl, fun s hs => ?_⟩⟩
                    obtain ⟨i, i1, i2, i3⟩ := (fea_no p1 ha hI p17 (by omega) hc).2 s hs
                    have := (hs.1 i i1).1
                    omega
                  · omega)
      · refine j_aload_n (pc := 25) hC d_P_feasible_25 rfl ?_
        refine jp_calli0 (pc := 26) hC hG (cw_P_111 (by decide)) rfl d_P_feasible_26 (c_P_dispatch U ho haU) (fun z26 S26 p26 o26 => ?_)
        have hz26 : z26 = 0 ∨ z26 = 1 := by rcases p26.2 with q | q; (right; exact q.1); (left; exact q.1)
        exact j_zret (pc := 29) hC d_P_feasible_29 (hp _ _ (fea_fin hoS o26 ha hI (fun i hi => by
                refine Classical.byContradiction (fun hc => ?_)
                have q1 := p17.2.2.1 i hi.1 (by rw [e2]; exact hi.2) (by rw [hU 7 i (by decide)]; omega)
                rw [hU 7 i (by decide)] at q1
                have := (ha.2 i hi.1 hi.2).1
                omega) p26))
theorem c_P_feasible (S : St) (ho : okP S) (ha : AskOk S) : Ct PW okP y_P_feasible b_P_feasible 4 (some .boolean) 3 [] S (fun z u => feasQ S z u) := by
  refine Ct.of (by decide) (Nat.le_of_ble_eq_true rfl) ho (fun X hW hk hC => ?_)
  have hG : GP X := ⟨hW, hk⟩
  replace hC : CX X R_P b_P_feasible 4 (some .boolean) 3 := hC
  show J X 4 (some .boolean) _ S 0 [some (.ref (gA X 0)), none, none, none] []
  refine j_aload_n (pc := 0) hC d_P_feasible_0 rfl ?_
  refine jp_callv0 (pc := 1) hC hG (cw_P_104 (by decide)) rfl d_P_feasible_1 (c_P_shutBlocks S ho) (fun U p1 o1 => ?_)
  refine j_bipush (pc := 4) hC d_P_feasible_4 (by decide) ?_
  refine j_istore_1 (pc := 6) hC d_P_feasible_6 (by decide) ?_
  refine j_iconst (pc := 7) hC d_P_feasible_7 ?_
  refine j_istore_2 (pc := 8) hC d_P_feasible_8 (by decide) ?_
  exact lp_P_feasible ho ha hC hG (fun z u h => h) 10 0 41 U (by omega) (by omega) (fea_0 o1 ha p1)
end FeasP
end
section
-- THE MODEL'S LEAVES
-- bits
def hb (x j : Int) : Prop := x.toNat.testBit j.toNat = true
theorem hb_or {x y j : Int} : hb (iOr x y) j ↔ hb x j ∨ hb y j := by
  unfold hb iOr
  rw [show ((x.toNat ||| y.toNat : Nat) : Int).toNat = x.toNat ||| y.toNat by omega, Nat.testBit_or, Bool.or_eq_true]
theorem pw_nat (j : Int) : (pw j).toNat = 2 ^ j.toNat := by
  unfold pw
  have : ((2 ^ j.toNat : Nat) : Int) = (2 : Int) ^ j.toNat := by rw [Int.natCast_pow]; rfl
  rw [← this]
  exact Int.toNat_natCast _
theorem hb_pw {i j : Int} (hi : 0 ≤ i) (hj : 0 ≤ j) : hb (pw i) j ↔ i = j := by
  unfold hb
  rw [pw_nat, Nat.testBit_two_pow, decide_eq_true_eq]
  omega
theorem hb_0 (j : Int) : ¬ hb 0 j := by
  unfold hb
  simp
theorem hb_ext {x y : Int} (hx : 0 ≤ x) (hy : 0 ≤ y) (h : ∀ j, 0 ≤ j → (hb x j ↔ hb y j)) : x = y := by
  have : x.toNat = y.toNat := by
    apply Nat.eq_of_testBit_eq
    intro i
    have := h i (by omega)
    unfold hb at this
    rw [Int.toNat_natCast] at this
    exact Bool.eq_iff_iff.mpr this
  omega
theorem hb_le {x y : Int} (hx : 0 ≤ x) (hy : 0 ≤ y) (h : ∀ j, 0 ≤ j → hb x j → hb y j) : x ≤ y := by
  have h1 : x.toNat &&& y.toNat = x.toNat := by
    apply Nat.eq_of_testBit_eq
    intro i
    rw [Nat.testBit_and]
    have := h i (by omega)
    unfold hb at this
    rw [Int.toNat_natCast] at this
    cases e : x.toNat.testBit i with
    | false => rfl
    | true => rw [this e]; rfl
  have h2 := @Nat.and_le_right x.toNat y.toNat
  omega
theorem hb_lt {x : Int} (h0 : 0 ≤ x) (h1 : x ≤ 127) {j : Int} (h : hb x j) (hj : 0 ≤ j) : j < 7 := by
  refine Classical.byContradiction (fun hc => ?_)
  unfold hb at h
  have := Nat.testBit_lt_two_pow (x := x.toNat) (i := j.toNat) (Nat.lt_of_lt_of_le (show x.toNat < 2 ^ 7 by omega) (Nat.pow_le_pow_right (by decide) (by omega)))
  rw [h] at this
  cases this
theorem iOr_127 {x j : Int} (h0 : 0 ≤ x) (h1 : x ≤ 127) (j0 : 0 ≤ j) (j1 : j ≤ 6) : iOr x (pw j) ≤ 127 := by
  have h2 : x.toNat < 2 ^ 7 := by omega
  have h3 : (pw j).toNat < 2 ^ 7 := by rw [pw_nat]; exact Nat.pow_lt_pow_right (by decide) (by omega)
  have h4 := Nat.or_lt_two_pow h2 h3
  unfold iOr
  omega
theorem hb_bit {x j : Int} (h0 : 0 ≤ x) (j0 : 0 ≤ j) : x / pw j % 2 = 1 ↔ hb x j := by
  unfold hb
  rw [Nat.testBit_eq_decide_div_mod_eq, decide_eq_true_eq]
  have e : x / pw j = ((x.toNat / 2 ^ j.toNat : Nat) : Int) := by
    unfold pw
    rw [Int.natCast_ediv, Int.toNat_of_nonneg h0, Int.natCast_pow]
    rfl
  rw [e]
  omega
theorem hb_del {x j : Int} (h0 : 0 ≤ x) (j0 : 0 ≤ j) (h : hb x j) : ∃ y, 0 ≤ y ∧ iOr y (pw j) = x ∧ ∀ i, 0 ≤ i → (hb y i ↔ hb x i ∧ i ≠ j) := by
  have key : ∀ i, 0 ≤ i → (hb ((x.toNat ^^^ 2 ^ j.toNat : Nat) : Int) i ↔ hb x i ∧ i ≠ j) := by
    intro i i0
    unfold hb at h ⊢
    rw [Int.toNat_natCast, Nat.testBit_xor, Nat.testBit_two_pow]
    by_cases e : i = j
    · subst e; simp [h]
    · have : ¬ j.toNat = i.toNat := by omega
      simp [this, e]
  refine ⟨((x.toNat ^^^ 2 ^ j.toNat : Nat) : Int), by omega, ?_, key⟩
  refine hb_ext (iOr_pos _ _) h0 (fun i i0 => ?_)
  rw [hb_or, key i i0, hb_pw j0 i0]
  by_cases e : i = j
  · subst e; simp [h]
  · constructor
    · rintro (q | q)
      · exact q.1
      · exact absurd q.symm e
    · intro q; exact Or.inl ⟨q, e⟩
theorem hb_jb {f : Int → Int} : ∀ (n : Nat) (j : Int), 0 ≤ j → (hb (jb f n) j ↔ j < n ∧ f j = 1)
  | 0, j, h => by
    simp only [jb]
    exact ⟨fun q => absurd q (hb_0 j), fun q => by omega⟩
  | n + 1, j, h => by
    have ih := hb_jb (f := f) n j h
    unfold jb
    split
    · rename_i e
      rw [hb_or, ih, hb_pw (by omega) h]
      constructor
      · rintro (q | q)
        · exact ⟨by omega, q.2⟩
        · subst q; exact ⟨by omega, e⟩
      · rintro ⟨q1, q2⟩
        by_cases e2 : (n : Int) = j
        · exact Or.inr e2
        · exact Or.inl ⟨by omega, q2⟩
    · rename_i e
      rw [ih]
      constructor
      · rintro ⟨q1, q2⟩; exact ⟨by omega, q2⟩
      · rintro ⟨q1, q2⟩
        refine ⟨?_, q2⟩
        rcases (show j < n ∨ j = n by omega) with q | rfl
        · exact q
        · exact absurd q2 e
theorem jb_127 (f : Int → Int) : ∀ n : Nat, n ≤ 7 → jb f n ≤ 127
  | 0, _ => by simp [jb]
  | n + 1, h => by
    have ih := jb_127 f n (by omega)
    unfold jb
    split
    · exact iOr_127 (jb_pos f n) ih (by omega) (by omega)
    · exact ih
section LeafM
variable {X : Cx} {S : St} {post : Int → St → Prop}
/-- there(id) -/
def thereId (S : St) (id : Int) : Prop := 0 ≤ id ∧ id < 6 ∧ S 1 id = 1
theorem c_M_there (S : St) (ho : okM S) (id : Int) (i1 : -2147483648 ≤ id) (i2 : id ≤ 2147483647) : Ct MW okM y_M_there b_M_there 2 (some .boolean) 0 [id] S (fun z u => u = S ∧ ((z = 1 ∧ thereId S id) ∨ (z = 0 ∧ ¬ thereId S id))) := by
  refine Ct.of (by decide) (Nat.le_of_ble_eq_true rfl) ho (fun X hW hk hC => ?_)
  have hG : GM X := ⟨hW, hk⟩
  replace hC : CX X R_M b_M_there 2 (some .boolean) 0 := hC
  show J X 2 (some .boolean) _ S 0 [some (.ref (gA X 0)), some (vI id)] []
  refine j_iload_n (pc := 0) hC d_M_there_0 rfl ?_
  refine j_if_lt (pc := 1) (tgt := 23) hC d_M_there_1 (by decide) (fun w1 => ?_) (fun w1 => ?_)
  · refine j_iconst (pc := 23) hC d_M_there_23 ?_
    exact j_zret (pc := 24) hC d_M_there_24 (⟨rfl, Or.inr ⟨rfl, fun h => by unfold thereId at h; omega⟩⟩)
  · refine j_iload_n (pc := 4) hC d_M_there_4 rfl ?_
    refine j_bipush (pc := 5) hC d_M_there_5 (by decide) ?_
    refine j_icmp_ge (pc := 7) (tgt := 23) hC d_M_there_7 (by decide) (fun w7 => ?_) (fun w7 => ?_)
    · refine j_iconst (pc := 23) hC d_M_there_23 ?_
      exact j_zret (pc := 24) hC d_M_there_24 (⟨rfl, Or.inr ⟨rfl, fun h => by unfold thereId at h; omega⟩⟩)
    · refine j_aload_n (pc := 10) hC d_M_there_10 rfl ?_
      refine jm_gf_held (pc := 11) hC hG d_M_there_11 ?_
      refine j_iload_n (pc := 14) hC d_M_there_14 rfl ?_
      refine jm_ld_held (pc := 15) hC hG d_M_there_15 (fun l15 u15 => ?_)
      refine j_if_eq (pc := 16) (tgt := 23) hC d_M_there_16 (by decide) (fun w16 => ?_) (fun w16 => ?_)
      · refine j_iconst (pc := 23) hC d_M_there_23 ?_
        exact j_zret (pc := 24) hC d_M_there_24 (⟨rfl, Or.inr ⟨rfl, fun h => by unfold thereId at h; omega⟩⟩)
      · refine j_iconst (pc := 19) hC d_M_there_19 ?_
        refine j_goto (pc := 20) (tgt := 24) hC d_M_there_20 (by decide) ?_
        exact j_zret (pc := 24) hC d_M_there_24 (⟨rfl, Or.inl ⟨rfl, by unfold thereId; omega⟩⟩)
/-- badWindow(r, d) -/
theorem c_M_badWindow (S : St) (ho : okM S) (r d : Int) (r1 : -2147483648 ≤ r) (r2 : r ≤ 2147483647) (d1 : -2147483648 ≤ d) (d2 : d ≤ 2147483647) : Ct MW okM y_M_badWindow b_M_badWindow 3 (some .boolean) 0 [r, d] S (fun z u => u = S ∧ ((z = 0 ∧ winOk S r d) ∨ (z = 1 ∧ ¬ winOk S r d))) := by
  refine Ct.of (by decide) (Nat.le_of_ble_eq_true rfl) ho (fun X hW hk hC => ?_)
  have hG : GM X := ⟨hW, hk⟩
  replace hC : CX X R_M b_M_badWindow 3 (some .boolean) 0 := hC
  show J X 3 (some .boolean) _ S 0 [some (.ref (gA X 0)), some (vI r), some (vI d)] []
  refine j_iload_n (pc := 0) hC d_M_badWindow_0 rfl ?_
  refine j_if_lt (pc := 1) (tgt := 30) hC d_M_badWindow_1 (by decide) (fun w1 => ?_) (fun w1 => ?_)
  · refine j_iconst (pc := 30) hC d_M_badWindow_30 ?_
    refine j_goto (pc := 31) (tgt := 35) hC d_M_badWindow_31 (by decide) ?_
    exact j_zret (pc := 35) hC d_M_badWindow_35 (⟨rfl, Or.inr ⟨rfl, fun h => by unfold winOk at h; omega⟩⟩)
  · refine j_iload_n (pc := 4) hC d_M_badWindow_4 rfl ?_
    refine j_bipush (pc := 5) hC d_M_badWindow_5 (by decide) ?_
    refine j_icmp_gt (pc := 7) (tgt := 30) hC d_M_badWindow_7 (by decide) (fun w7 => ?_) (fun w7 => ?_)
    · refine j_iconst (pc := 30) hC d_M_badWindow_30 ?_
      refine j_goto (pc := 31) (tgt := 35) hC d_M_badWindow_31 (by decide) ?_
      exact j_zret (pc := 35) hC d_M_badWindow_35 (⟨rfl, Or.inr ⟨rfl, fun h => by unfold winOk at h; omega⟩⟩)
    · refine j_iload_n (pc := 10) hC d_M_badWindow_10 rfl ?_
      refine j_bipush (pc := 11) hC d_M_badWindow_11 (by decide) ?_
      refine j_icmp_gt (pc := 13) (tgt := 30) hC d_M_badWindow_13 (by decide) (fun w13 => ?_) (fun w13 => ?_)
      · refine j_iconst (pc := 30) hC d_M_badWindow_30 ?_
        refine j_goto (pc := 31) (tgt := 35) hC d_M_badWindow_31 (by decide) ?_
        exact j_zret (pc := 35) hC d_M_badWindow_35 (⟨rfl, Or.inr ⟨rfl, fun h => by unfold winOk at h; omega⟩⟩)
      · refine j_iload_n (pc := 16) hC d_M_badWindow_16 rfl ?_
        refine j_if_lt (pc := 17) (tgt := 30) hC d_M_badWindow_17 (by decide) (fun w17 => ?_) (fun w17 => ?_)
        · refine j_iconst (pc := 30) hC d_M_badWindow_30 ?_
          refine j_goto (pc := 31) (tgt := 35) hC d_M_badWindow_31 (by decide) ?_
          exact j_zret (pc := 35) hC d_M_badWindow_35 (⟨rfl, Or.inr ⟨rfl, fun h => by unfold winOk at h; omega⟩⟩)
        · refine j_iload_n (pc := 20) hC d_M_badWindow_20 rfl ?_
          refine j_iload_n (pc := 21) hC d_M_badWindow_21 rfl ?_
          refine j_isub (pc := 22) hC d_M_badWindow_22 ?_
          refine j_aload_n (pc := 23) hC d_M_badWindow_23 rfl ?_
          refine jm_gf_len (pc := 24) hC hG d_M_badWindow_24 (fun l24 u24 => ?_)
          refine j_icmp_ge (pc := 27) (tgt := 34) hC d_M_badWindow_27 (by decide) (fun w27 => ?_) (fun w27 => ?_)
          · refine j_iconst (pc := 34) hC d_M_badWindow_34 ?_
            exact j_zret (pc := 35) hC d_M_badWindow_35 (⟨rfl, Or.inl ⟨rfl, by unfold winOk; omega⟩⟩)
          · refine j_iconst (pc := 30) hC d_M_badWindow_30 ?_
            refine j_goto (pc := 31) (tgt := 35) hC d_M_badWindow_31 (by decide) ?_
            exact j_zret (pc := 35) hC d_M_badWindow_35 (⟨rfl, Or.inr ⟨rfl, fun h => by unfold winOk at h; omega⟩⟩)
/-- window(j, r, d) -/
def winS (S : St) (j r d : Int) : St := s2 (s2 (s2 S 0 2 (iOr (S 0 2) (pw j))) 7 j r) 8 j d
theorem c_M_window (S : St) (ho : okM S) (j r d : Int) (j0 : 0 ≤ j) (j1 : j ≤ 6) (r1 : -1000 ≤ r) (r2 : r ≤ 1000) (d1 : -1000 ≤ d) (d2 : d ≤ 1000) : Ct MW okM y_M_window b_M_window 4 none 0 [j, r, d] S (fun _ u => u = winS S j r d) := by
  refine Ct.of (by decide) (Nat.le_of_ble_eq_true rfl) ho (fun X hW hk hC => ?_)
  have hG : GM X := ⟨hW, hk⟩
  replace hC : CX X R_M b_M_window 4 none 0 := hC
  show J X 4 none _ S 0 [some (.ref (gA X 0)), some (vI j), some (vI r), some (vI d)] []
  have hb2 := ho.2.2.1
  have hpw := pw_pos j
  have h127 := iOr_127 hb2.1 hb2.2 j0 j1
  have hio := iOr_pos (S 0 2) (pw j)
  refine j_aload_n (pc := 0) hC d_M_window_0 rfl ?_
  refine j_aload_n (pc := 1) hC d_M_window_1 rfl ?_
  refine jm_gf_all (pc := 2) hC hG d_M_window_2 (fun l2 u2 => ?_)
  refine j_iconst (pc := 5) hC d_M_window_5 ?_
  refine j_iload_n (pc := 6) hC d_M_window_6 rfl ?_
  refine j_shl1 (pc := 7) hC d_M_window_7 ?_
  refine j_ior (pc := 8) hC d_M_window_8 ?_
  refine jm_pf_all (pc := 9) hC hG d_M_window_9 ?_
  refine j_aload_n (pc := 12) hC d_M_window_12 rfl ?_
  refine jm_gf_lo (pc := 13) hC hG d_M_window_13 ?_
  refine j_iload_n (pc := 16) hC d_M_window_16 rfl ?_
  refine j_iload_n (pc := 17) hC d_M_window_17 rfl ?_
  refine jm_st_lo (pc := 18) hC hG d_M_window_18 ?_
  refine j_aload_n (pc := 19) hC d_M_window_19 rfl ?_
  refine jm_gf_hi (pc := 20) hC hG d_M_window_20 ?_
  refine j_iload_n (pc := 23) hC d_M_window_23 rfl ?_
  refine j_iload_n (pc := 24) hC d_M_window_24 rfl ?_
  refine jm_st_hi (pc := 25) hC hG d_M_window_25 ?_
  exact j_vret (pc := 26) hC d_M_window_26 (rfl)
/-- ask(begin, end) -/
def askMI (S U : St) (bg en k : Int) : Prop := (∀ b i, b ≠ 7 → b ≠ 8 → ¬ (b = 0 ∧ i = 2) → U b i = S b i) ∧ U 0 2 = jb (S 1) k.toNat ∧ ∀ j, 0 ≤ j → j < k → S 1 j = 1 → U 7 j = max (S 2 j) bg ∧ U 8 j = min (S 3 j) en
theorem askM_skip {U : St} {bg en k : Int} (h0 : 0 ≤ k) (h : askMI S U bg en k) (q : ¬ S 1 k = 1) : askMI S U bg en (k + 1) :=
  ⟨h.1, by rw [jb_0 h0 q]; exact h.2.1, fun j j1 j2 j3 => by
    rcases (show j < k ∨ j = k by omega) with e | rfl
    · exact h.2.2 j j1 e j3
    · exact absurd j3 q⟩
theorem askM_take {U : St} {bg en k l h : Int} (h0 : 0 ≤ k) (hI : askMI S U bg en k) (q : S 1 k = 1) (hl : l = max (S 2 k) bg) (hh : h = min (S 3 k) en) : askMI S (s2 (s2 (s2 U 0 2 (iOr (U 0 2) (pw k))) 7 k l) 8 k h) bg en (k + 1) := by
  refine ⟨fun b i b1 b2 b3 => ?_, ?_, fun j j1 j2 j3 => ?_⟩
  · rw [s2_ne (fun e => b2 e.1), s2_ne (fun e => b1 e.1), s2_ne b3]
    exact hI.1 b i b1 b2 b3
  · rw [s2_ne (by rintro ⟨q, -⟩; cases q), s2_ne (by rintro ⟨q, -⟩; cases q), s2_eq, jb_1 h0 q, hI.2.1]
  · by_cases e : j = k
    · subst e
      rw [s2_eq, s2_ne (by rintro ⟨q, -⟩; cases q), s2_eq]
      exact ⟨hl, hh⟩
    · rw [s2_ne (by rintro ⟨q, -⟩; cases q), s2_ne (fun z => e z.2), s2_ne (fun z => e z.2), s2_ne (by rintro ⟨q, -⟩; cases q), s2_ne (by rintro ⟨q, -⟩; cases q), s2_ne (by rintro ⟨q, -⟩; cases q)]
      exact hI.2.2 j j1 (by omega) j3
theorem lp_M_ask {bg en : Int} (hC : CX X R_M b_M_ask 4 none 0) (hG : GM X) (b1 : -1000 ≤ bg) (b2 : bg ≤ 1000) (e1 : -1000 ≤ en) (e2 : en ≤ 1000) (hp : ∀ U, askMI S U bg en 6 → post 0 U) : ∀ (n : Nat) (k : Int) (U : St), 0 ≤ k → k ≤ 6 → 6 - k < n → askMI S U bg en k → J X 4 none post U 7 [some (.ref (gA X 0)), some (vI bg), some (vI en), some (vI k)] [] := by
  intro n
  induction n with
  | zero => intro k U h1 h2 h3; omega
  | succ n ih =>
    intro k U h1 h2 h3 hI
    refine jm_ok hG (fun ho => ?_)
    have q1 := hI.1 1 k (by decide) (by decide) (by omega)
    have q2 := hI.1 2 k (by decide) (by decide) (by omega)
    have q3 := hI.1 3 k (by decide) (by decide) (by omega)
    have g2 := ho.2.2.2.2.1 k
    have g3 := ho.2.2.2.2.2.1 k
    have hb2 := ho.2.2.1
    have hpw := pw_pos k
    have h127 : k < 6 → iOr (U 0 2) (pw k) ≤ 127 := fun q => iOr_127 hb2.1 hb2.2 h1 (by omega)
    have hio := iOr_pos (U 0 2) (pw k)
    refine j_iload_n (pc := 7) hC d_M_ask_7 rfl ?_
    refine j_bipush (pc := 8) hC d_M_ask_8 (by decide) ?_
    refine j_icmp_ge (pc := 10) (tgt := 92) hC d_M_ask_10 (by decide) (fun w10 => ?_) (fun w10 => ?_)
    · exact j_vret (pc := 92) hC d_M_ask_92 (hp U (by rw [show (6 : Int) = k by omega]; exact hI))
    · refine j_aload_n (pc := 13) hC d_M_ask_13 rfl ?_
      refine jm_gf_held (pc := 14) hC hG d_M_ask_14 ?_
      refine j_iload_n (pc := 17) hC d_M_ask_17 rfl ?_
      refine jm_ld_held (pc := 18) hC hG d_M_ask_18 (fun l18 u18 => ?_)
      refine j_if_eq (pc := 19) (tgt := 86) hC d_M_ask_19 (by decide) (fun w19 => ?_) (fun w19 => ?_)
      · refine j_iinc_3 (pc := 86) hC d_M_ask_86 (by decide) ?_
        refine j_goto (pc := 89) (tgt := 7) hC d_M_ask_89 (by decide) ?_
        exact ih (k + 1) U (by omega) (by omega) (by omega) (askM_skip h1 hI (by omega))
      · refine j_aload_n (pc := 22) hC d_M_ask_22 rfl ?_
        refine j_aload_n (pc := 23) hC d_M_ask_23 rfl ?_
        refine jm_gf_all (pc := 24) hC hG d_M_ask_24 (fun l24 u24 => ?_)
        refine j_iconst (pc := 27) hC d_M_ask_27 ?_
        refine j_iload_n (pc := 28) hC d_M_ask_28 rfl ?_
        refine j_shl1 (pc := 29) hC d_M_ask_29 ?_
        refine j_ior (pc := 30) hC d_M_ask_30 ?_
        refine jm_pf_all (pc := 31) hC hG d_M_ask_31 ?_
        have h127 := h127 (by omega)
        refine j_aload_n (pc := 34) hC d_M_ask_34 rfl ?_
        refine jm_gf_lo (pc := 35) hC hG d_M_ask_35 ?_
        refine j_iload_n (pc := 38) hC d_M_ask_38 rfl ?_
        refine j_aload_n (pc := 39) hC d_M_ask_39 rfl ?_
        refine jm_gf_rel (pc := 40) hC hG d_M_ask_40 ?_
        refine j_iload_n (pc := 43) hC d_M_ask_43 rfl ?_
        refine jm_ld_rel (pc := 44) hC hG d_M_ask_44 (fun l44 u44 => ?_)
        refine j_iload_n (pc := 45) hC d_M_ask_45 rfl ?_
        refine j_icmp_le (pc := 46) (tgt := 58) (x := U 2 k) hC d_M_ask_46 (by decide) (fun w46 => ?_) (fun w46 => ?_)
        · refine j_iload_n (pc := 58) hC d_M_ask_58 rfl ?_
          refine jm_st_lo (pc := 59) (v := bg) hC hG d_M_ask_59 ?_
          refine j_aload_n (pc := 60) hC d_M_ask_60 rfl ?_
          refine jm_gf_hi (pc := 61) hC hG d_M_ask_61 ?_
          refine j_iload_n (pc := 64) hC d_M_ask_64 rfl ?_
          refine j_aload_n (pc := 65) hC d_M_ask_65 rfl ?_
          refine jm_gf_dead (pc := 66) hC hG d_M_ask_66 ?_
          refine j_iload_n (pc := 69) hC d_M_ask_69 rfl ?_
          refine jm_ld_dead (pc := 70) hC hG d_M_ask_70 (fun l70 u70 => ?_)
          refine j_iload_n (pc := 71) hC d_M_ask_71 rfl ?_
          refine j_icmp_ge (pc := 72) (tgt := 84) (x := U 3 k) hC d_M_ask_72 (by decide) (fun w72 => ?_) (fun w72 => ?_)
          · refine j_iload_n (pc := 84) hC d_M_ask_84 rfl ?_
            refine jm_st_hi (pc := 85) (v := en) hC hG d_M_ask_85 ?_
            refine j_iinc_3 (pc := 86) hC d_M_ask_86 (by decide) ?_
            refine j_goto (pc := 89) (tgt := 7) hC d_M_ask_89 (by decide) ?_
            exact ih (k + 1) _ (by omega) (by omega) (by omega) (askM_take h1 hI (by omega) (by omega) (by omega))
          · refine j_aload_n (pc := 75) hC d_M_ask_75 rfl ?_
            refine jm_gf_dead (pc := 76) hC hG d_M_ask_76 ?_
            refine j_iload_n (pc := 79) hC d_M_ask_79 rfl ?_
            refine jm_ld_dead (pc := 80) hC hG d_M_ask_80 (fun l80 u80 => ?_)
            refine j_goto (pc := 81) (tgt := 85) hC d_M_ask_81 (by decide) ?_
            refine jm_st_hi (pc := 85) (v := U 3 k) hC hG d_M_ask_85 ?_
            refine j_iinc_3 (pc := 86) hC d_M_ask_86 (by decide) ?_
            refine j_goto (pc := 89) (tgt := 7) hC d_M_ask_89 (by decide) ?_
            exact ih (k + 1) _ (by omega) (by omega) (by omega) (askM_take h1 hI (by omega) (by omega) (by omega))
        · refine j_aload_n (pc := 49) hC d_M_ask_49 rfl ?_
          refine jm_gf_rel (pc := 50) hC hG d_M_ask_50 ?_
          refine j_iload_n (pc := 53) hC d_M_ask_53 rfl ?_
          refine jm_ld_rel (pc := 54) hC hG d_M_ask_54 (fun l54 u54 => ?_)
          refine j_goto (pc := 55) (tgt := 59) hC d_M_ask_55 (by decide) ?_
          refine jm_st_lo (pc := 59) (v := U 2 k) hC hG d_M_ask_59 ?_
          refine j_aload_n (pc := 60) hC d_M_ask_60 rfl ?_
          refine jm_gf_hi (pc := 61) hC hG d_M_ask_61 ?_
          refine j_iload_n (pc := 64) hC d_M_ask_64 rfl ?_
          refine j_aload_n (pc := 65) hC d_M_ask_65 rfl ?_
          refine jm_gf_dead (pc := 66) hC hG d_M_ask_66 ?_
          refine j_iload_n (pc := 69) hC d_M_ask_69 rfl ?_
          refine jm_ld_dead (pc := 70) hC hG d_M_ask_70 (fun l70 u70 => ?_)
          refine j_iload_n (pc := 71) hC d_M_ask_71 rfl ?_
          refine j_icmp_ge (pc := 72) (tgt := 84) (x := U 3 k) hC d_M_ask_72 (by decide) (fun w72 => ?_) (fun w72 => ?_)
          · refine j_iload_n (pc := 84) hC d_M_ask_84 rfl ?_
            refine jm_st_hi (pc := 85) (v := en) hC hG d_M_ask_85 ?_
            refine j_iinc_3 (pc := 86) hC d_M_ask_86 (by decide) ?_
            refine j_goto (pc := 89) (tgt := 7) hC d_M_ask_89 (by decide) ?_
            exact ih (k + 1) _ (by omega) (by omega) (by omega) (askM_take h1 hI (by omega) (by omega) (by omega))
          · refine j_aload_n (pc := 75) hC d_M_ask_75 rfl ?_
            refine jm_gf_dead (pc := 76) hC hG d_M_ask_76 ?_
            refine j_iload_n (pc := 79) hC d_M_ask_79 rfl ?_
            refine jm_ld_dead (pc := 80) hC hG d_M_ask_80 (fun l80 u80 => ?_)
            refine j_goto (pc := 81) (tgt := 85) hC d_M_ask_81 (by decide) ?_
            refine jm_st_hi (pc := 85) (v := U 3 k) hC hG d_M_ask_85 ?_
            refine j_iinc_3 (pc := 86) hC d_M_ask_86 (by decide) ?_
            refine j_goto (pc := 89) (tgt := 7) hC d_M_ask_89 (by decide) ?_
            exact ih (k + 1) _ (by omega) (by omega) (by omega) (askM_take h1 hI (by omega) (by omega) (by omega))
theorem c_M_ask (S : St) (ho : okM S) (bg en : Int) (b1 : -1000 ≤ bg) (b2 : bg ≤ 1000) (e1 : -1000 ≤ en) (e2 : en ≤ 1000) : Ct MW okM y_M_ask b_M_ask 4 none 0 [bg, en] S (fun _ u => askMI S u bg en 6) := by
  refine Ct.of (by decide) (Nat.le_of_ble_eq_true rfl) ho (fun X hW hk hC => ?_)
  have hG : GM X := ⟨hW, hk⟩
  replace hC : CX X R_M b_M_ask 4 none 0 := hC
  show J X 4 none _ S 0 [some (.ref (gA X 0)), some (vI bg), some (vI en), none] []
  refine j_aload_n (pc := 0) hC d_M_ask_0 rfl ?_
  refine j_iconst (pc := 1) hC d_M_ask_1 ?_
  refine jm_pf_all (pc := 2) hC hG d_M_ask_2 ?_
  refine j_iconst (pc := 5) hC d_M_ask_5 ?_
  refine j_istore_3 (pc := 6) hC d_M_ask_6 (by decide) ?_
  exact lp_M_ask hC hG b1 b2 e1 e2 (fun U h => h) 10 0 _ (by omega) (by omega) (by omega) ⟨fun b i _ _ q => s2_ne q, s2_eq _ _ _ _, fun j j1 j2 => by omega⟩
/-- clear(t) -/
def clrM (S : St) (t k : Int) : Prop := ∀ j, 0 ≤ j → j < k → S 4 j = 1 → ¬ (S 5 j - S 0 0 < t ∧ t < S 6 j)
def clrI (S : St) (t k z : Int) : Prop := (z = 1 ∧ clrM S t k) ∨ (z = 0 ∧ ¬ clrM S t k)
theorem clr_skip {t k z : Int} (h : clrI S t k z) (q : S 4 k = 1 → ¬ (S 5 k - S 0 0 < t ∧ t < S 6 k)) : clrI S t (k + 1) z := by
  rcases h with ⟨e, h⟩ | ⟨e, h⟩
  · refine Or.inl ⟨e, fun j j1 j2 j3 => ?_⟩
    rcases (show j < k ∨ j = k by omega) with e2 | rfl
    · exact h j j1 e2 j3
    · exact q j3
  · exact Or.inr ⟨e, fun h2 => h (fun j j1 j2 => h2 j j1 (by omega))⟩
theorem clr_no {t k : Int} (h0 : 0 ≤ k) (q : S 4 k = 1) (q2 : S 5 k - S 0 0 < t ∧ t < S 6 k) : clrI S t (k + 1) 0 := Or.inr ⟨rfl, fun h => h k h0 (by omega) q q2⟩
theorem lp_M_clear {t : Int} (hC : CX X R_M b_M_clear 4 (some .boolean) 0) (hG : GM X) (t1 : -1000 ≤ t) (t2 : t ≤ 1000) (hp : ∀ z, clrI S t 4 z → post z S) : ∀ (n : Nat) (k z : Int), 0 ≤ k → k ≤ 4 → 4 - k < n → 0 ≤ z → z ≤ 1 → clrI S t k z → J X 4 (some .boolean) post S 4 [some (.ref (gA X 0)), some (vI t), some (vI z), some (vI k)] [] := by
  intro n
  induction n with
  | zero => intro k z h1 h2 h3; omega
  | succ n ih =>
    intro k z h1 h2 h3 z1 z2 hI
    refine j_iload_n (pc := 4) hC d_M_clear_4 rfl ?_
    refine j_iconst (pc := 5) hC d_M_clear_5 ?_
    refine j_icmp_ge (pc := 6) (tgt := 51) hC d_M_clear_6 (by decide) (fun w6 => ?_) (fun w6 => ?_)
    · refine j_iload_n (pc := 51) hC d_M_clear_51 rfl ?_
      exact j_zret (pc := 52) hC d_M_clear_52 (hp z (by rw [show (4 : Int) = k by omega]; exact hI))
    · refine j_aload_n (pc := 9) hC d_M_clear_9 rfl ?_
      refine jm_gf_shut (pc := 10) hC hG d_M_clear_10 ?_
      refine j_iload_n (pc := 13) hC d_M_clear_13 rfl ?_
      refine jm_ld_shut (pc := 14) hC hG d_M_clear_14 (fun l14 u14 => ?_)
      refine j_if_eq (pc := 15) (tgt := 45) hC d_M_clear_15 (by decide) (fun w15 => ?_) (fun w15 => ?_)
      · refine j_iinc_3 (pc := 45) hC d_M_clear_45 (by decide) ?_
        refine j_goto (pc := 48) (tgt := 4) hC d_M_clear_48 (by decide) ?_
        exact ih (k + 1) z (by omega) (by omega) (by omega) z1 z2 (clr_skip hI (by omega))
      · refine j_aload_n (pc := 18) hC d_M_clear_18 rfl ?_
        refine jm_gf_from (pc := 19) hC hG d_M_clear_19 ?_
        refine j_iload_n (pc := 22) hC d_M_clear_22 rfl ?_
        refine jm_ld_from (pc := 23) hC hG d_M_clear_23 (fun l23 u23 => ?_)
        refine j_iload_n (pc := 24) hC d_M_clear_24 rfl ?_
        refine j_aload_n (pc := 25) hC d_M_clear_25 rfl ?_
        refine jm_gf_len (pc := 26) hC hG d_M_clear_26 (fun l26 u26 => ?_)
        refine j_iadd (pc := 29) hC d_M_clear_29 ?_
        refine j_icmp_ge (pc := 30) (tgt := 45) hC d_M_clear_30 (by decide) (fun w30 => ?_) (fun w30 => ?_)
        · refine j_iinc_3 (pc := 45) hC d_M_clear_45 (by decide) ?_
          refine j_goto (pc := 48) (tgt := 4) hC d_M_clear_48 (by decide) ?_
          exact ih (k + 1) z (by omega) (by omega) (by omega) z1 z2 (clr_skip hI (by omega))
        · refine j_iload_n (pc := 33) hC d_M_clear_33 rfl ?_
          refine j_aload_n (pc := 34) hC d_M_clear_34 rfl ?_
          refine jm_gf_to (pc := 35) hC hG d_M_clear_35 ?_
          refine j_iload_n (pc := 38) hC d_M_clear_38 rfl ?_
          refine jm_ld_to (pc := 39) hC hG d_M_clear_39 (fun l39 u39 => ?_)
          refine j_icmp_ge (pc := 40) (tgt := 45) hC d_M_clear_40 (by decide) (fun w40 => ?_) (fun w40 => ?_)
          · refine j_iinc_3 (pc := 45) hC d_M_clear_45 (by decide) ?_
            refine j_goto (pc := 48) (tgt := 4) hC d_M_clear_48 (by decide) ?_
            exact ih (k + 1) z (by omega) (by omega) (by omega) z1 z2 (clr_skip hI (by omega))
          · refine j_iconst (pc := 43) hC d_M_clear_43 ?_
            refine j_istore_2 (pc := 44) hC d_M_clear_44 (by decide) ?_
            refine j_iinc_3 (pc := 45) hC d_M_clear_45 (by decide) ?_
            refine j_goto (pc := 48) (tgt := 4) hC d_M_clear_48 (by decide) ?_
            exact ih (k + 1) 0 (by omega) (by omega) (by omega) (by omega) (by omega) (clr_no h1 (by omega) (by omega))
theorem c_M_clear (S : St) (ho : okM S) (t : Int) (t1 : -1000 ≤ t) (t2 : t ≤ 1000) : Ct MW okM y_M_clear b_M_clear 4 (some .boolean) 0 [t] S (fun z u => u = S ∧ clrI S t 4 z) := by
  refine Ct.of (by decide) (Nat.le_of_ble_eq_true rfl) ho (fun X hW hk hC => ?_)
  have hG : GM X := ⟨hW, hk⟩
  replace hC : CX X R_M b_M_clear 4 (some .boolean) 0 := hC
  show J X 4 (some .boolean) _ S 0 [some (.ref (gA X 0)), some (vI t), none, none] []
  refine j_iconst (pc := 0) hC d_M_clear_0 ?_
  refine j_istore_2 (pc := 1) hC d_M_clear_1 (by decide) ?_
  refine j_iconst (pc := 2) hC d_M_clear_2 ?_
  refine j_istore_3 (pc := 3) hC d_M_clear_3 (by decide) ?_
  exact lp_M_clear hC hG t1 t2 (fun z h => ⟨rfl, h⟩) 10 0 1 (by omega) (by omega) (by omega) (by omega) (by omega) (Or.inl ⟨rfl, fun j j1 j2 => by omega⟩)
/-- leastFree() -/
def cnH (f : Int → Int) : Nat → Int
  | 0 => 0
  | n + 1 => if f n = 1 then cnH f n + 1 else cnH f n
theorem cnH_bd (f : Int → Int) : ∀ n : Nat, 0 ≤ cnH f n ∧ cnH f n ≤ n
  | 0 => by simp [cnH]
  | n + 1 => by
    have h := cnH_bd f n
    unfold cnH
    split <;> omega
theorem cnH_1 {f : Int → Int} {k : Int} (h : 0 ≤ k) (q : f k = 1) : cnH f (k + 1).toNat = cnH f k.toNat + 1 := by
  rw [show (k + 1).toNat = k.toNat + 1 by omega, cnH, Int.toNat_of_nonneg h, if_pos q]
theorem cnH_0 {f : Int → Int} {k : Int} (h : 0 ≤ k) (q : ¬ f k = 1) : cnH f (k + 1).toNat = cnH f k.toNat := by
  rw [show (k + 1).toNat = k.toNat + 1 by omega, cnH, Int.toNat_of_nonneg h, if_neg q]
def lfI (S : St) (k n l : Int) : Prop := n = cnH (S 1) 6 - cnH (S 1) (k + 1).toNat ∧ k < l ∧ l ≤ 6 ∧ (l < 6 → S 1 l = 0) ∧ ∀ i, k < i → i < l → S 1 i = 1
def lfQ (S : St) (z : Int) : Prop := (S 0 1 ≤ cnH (S 1) 6 ∧ z = 6) ∨ (cnH (S 1) 6 < S 0 1 ∧ 0 ≤ z ∧ z ≤ 6 ∧ (z < 6 → S 1 z = 0) ∧ ∀ i, 0 ≤ i → i < z → S 1 i = 1)
theorem lp_M_leastFree (hC : CX X R_M b_M_leastFree 4 (some .int) 0) (hG : GM X) (hp : ∀ z, lfQ S z → post z S) : ∀ (n : Nat) (k c l : Int), -1 ≤ k → k ≤ 5 → k + 1 < n → lfI S k c l → J X 4 (some .int) post S 7 [some (.ref (gA X 0)), some (vI l), some (vI c), some (vI k)] [] := by
  intro n
  induction n with
  | zero => intro k c l h1 h2 h3; omega
  | succ n ih =>
    intro k c l h1 h2 h3 hI
    have hI2 := hI
    obtain ⟨i1, i2, i3, i4, i5⟩ := hI2
    have hbd := cnH_bd (S 1) 6
    have hbd2 := cnH_bd (S 1) (k + 1).toNat
    have ek : k = -1 → cnH (S 1) (k + 1).toNat = 0 := fun e => by rw [e]; rfl
    refine j_iload_n (pc := 7) hC d_M_leastFree_7 rfl ?_
    refine j_if_lt (pc := 8) (tgt := 34) hC d_M_leastFree_8 (by decide) (fun w8 => ?_) (fun w8 => ?_)
    · refine j_iload_n (pc := 34) hC d_M_leastFree_34 rfl ?_
      refine j_aload_n (pc := 35) hC d_M_leastFree_35 rfl ?_
      refine jm_gf_cap (pc := 36) hC hG d_M_leastFree_36 (fun l36 u36 => ?_)
      refine j_icmp_lt (pc := 39) (tgt := 47) hC d_M_leastFree_39 (by decide) (fun w39 => ?_) (fun w39 => ?_)
      · refine j_iload_n (pc := 47) hC d_M_leastFree_47 rfl ?_
        exact j_iret (pc := 48) hC d_M_leastFree_48 (hp _ (Or.inr ⟨by have := ek (by omega); omega, by omega, i3, i4, fun i q1 q2 => i5 i (by omega) q2⟩))
      · refine j_bipush (pc := 42) hC d_M_leastFree_42 (by decide) ?_
        refine j_goto (pc := 44) (tgt := 48) hC d_M_leastFree_44 (by decide) ?_
        exact j_iret (pc := 48) hC d_M_leastFree_48 (hp _ (Or.inl ⟨by have := ek (by omega); omega, rfl⟩))
    · refine j_aload_n (pc := 11) hC d_M_leastFree_11 rfl ?_
      refine jm_gf_held (pc := 12) hC hG d_M_leastFree_12 ?_
      refine j_iload_n (pc := 15) hC d_M_leastFree_15 rfl ?_
      refine jm_ld_held (pc := 16) hC hG d_M_leastFree_16 (fun l16 u16 => ?_)
      refine j_if_eq (pc := 17) (tgt := 26) hC d_M_leastFree_17 (by decide) (fun w17 => ?_) (fun w17 => ?_)
      · refine j_iload_n (pc := 26) hC d_M_leastFree_26 rfl ?_
        refine j_istore_1 (pc := 27) hC d_M_leastFree_27 (by decide) ?_
        refine j_iinc_3 (pc := 28) hC d_M_leastFree_28 (by decide) ?_
        refine j_goto (pc := 31) (tgt := 7) hC d_M_leastFree_31 (by decide) ?_
        exact ih (k + -1) c k (by omega) (by omega) (by omega) ⟨by rw [show k + -1 + 1 = k by omega, i1, cnH_0 (by omega) (by omega)], by omega, by omega, fun _ => by omega, fun i q1 q2 => by omega⟩
      · refine j_iinc_2 (pc := 20) hC d_M_leastFree_20 (by decide) ?_
        refine j_goto (pc := 23) (tgt := 28) hC d_M_leastFree_23 (by decide) ?_
        refine j_iinc_3 (pc := 28) hC d_M_leastFree_28 (by decide) ?_
        refine j_goto (pc := 31) (tgt := 7) hC d_M_leastFree_31 (by decide) ?_
        exact ih (k + -1) (c + 1) l (by omega) (by omega) (by omega) ⟨by rw [show k + -1 + 1 = k by omega, i1, cnH_1 (by omega) (by omega)]; omega, by omega, i3, i4, fun i q1 q2 => by
          rcases (show k < i ∨ i = k by omega) with e | rfl
          · exact i5 i e q2
          · omega⟩
theorem c_M_leastFree (S : St) (ho : okM S) : Ct MW okM y_M_leastFree b_M_leastFree 4 (some .int) 0 [] S (fun z u => u = S ∧ lfQ S z) := by
  refine Ct.of (by decide) (Nat.le_of_ble_eq_true rfl) ho (fun X hW hk hC => ?_)
  have hG : GM X := ⟨hW, hk⟩
  replace hC : CX X R_M b_M_leastFree 4 (some .int) 0 := hC
  show J X 4 (some .int) _ S 0 [some (.ref (gA X 0)), none, none, none] []
  refine j_bipush (pc := 0) hC d_M_leastFree_0 (by decide) ?_
  refine j_istore_1 (pc := 2) hC d_M_leastFree_2 (by decide) ?_
  refine j_iconst (pc := 3) hC d_M_leastFree_3 ?_
  refine j_istore_2 (pc := 4) hC d_M_leastFree_4 (by decide) ?_
  refine j_iconst (pc := 5) hC d_M_leastFree_5 ?_
  refine j_istore_3 (pc := 6) hC d_M_leastFree_6 (by decide) ?_
  exact lp_M_leastFree hC hG (fun z h => ⟨rfl, h⟩) 10 5 0 6 (by omega) (by omega) (by omega) ⟨by show 0 = cnH (S 1) 6 - cnH (S 1) 6; omega, by omega, by omega, fun h => by omega, fun i q1 q2 => by omega⟩
/-- release(id), deadline(id), jobs() -/
theorem c_M_release (S : St) (ho : okM S) (id : Int) (i1 : -2147483648 ≤ id) (i2 : id ≤ 2147483647) : Ct MW okM y_M_release b_M_release 2 (some .int) 1 [id] S (fun z u => u = S ∧ ((thereId S id ∧ z = S 2 id) ∨ (¬ thereId S id ∧ z = -1))) := by
  refine Ct.of (by decide) (Nat.le_of_ble_eq_true rfl) ho (fun X hW hk hC => ?_)
  have hG : GM X := ⟨hW, hk⟩
  replace hC : CX X R_M b_M_release 2 (some .int) 1 := hC
  show J X 2 (some .int) _ S 0 [some (.ref (gA X 0)), some (vI id)] []
  refine j_aload_n (pc := 0) hC d_M_release_0 rfl ?_
  refine j_iload_n (pc := 1) hC d_M_release_1 rfl ?_
  refine jm_calli1 (pc := 2) hC hG (cw_M_79 (by decide)) rfl d_M_release_2 (c_M_there S ho id i1 i2) (fun z S2 p o2 => ?_)
  refine J.eqs p.1 ?_
  replace p := p.2
  unfold thereId at p
  refine j_if_eq (pc := 5) (tgt := 17) hC d_M_release_5 (by decide) (fun w5 => ?_) (fun w5 => ?_)
  · refine j_iconst (pc := 17) hC d_M_release_17 ?_
    exact j_iret (pc := 18) hC d_M_release_18 (⟨rfl, Or.inr ⟨by unfold thereId; omega, rfl⟩⟩)
  · refine j_aload_n (pc := 8) hC d_M_release_8 rfl ?_
    refine jm_gf_rel (pc := 9) hC hG d_M_release_9 ?_
    refine j_iload_n (pc := 12) hC d_M_release_12 rfl ?_
    refine jm_ld_rel (pc := 13) hC hG d_M_release_13 (fun l13 u13 => ?_)
    refine j_goto (pc := 14) (tgt := 18) hC d_M_release_14 (by decide) ?_
    exact j_iret (pc := 18) hC d_M_release_18 (⟨rfl, Or.inl ⟨by unfold thereId; omega, rfl⟩⟩)
theorem c_M_deadline (S : St) (ho : okM S) (id : Int) (i1 : -2147483648 ≤ id) (i2 : id ≤ 2147483647) : Ct MW okM y_M_deadline b_M_deadline 2 (some .int) 1 [id] S (fun z u => u = S ∧ ((thereId S id ∧ z = S 3 id) ∨ (¬ thereId S id ∧ z = -1))) := by
  refine Ct.of (by decide) (Nat.le_of_ble_eq_true rfl) ho (fun X hW hk hC => ?_)
  have hG : GM X := ⟨hW, hk⟩
  replace hC : CX X R_M b_M_deadline 2 (some .int) 1 := hC
  show J X 2 (some .int) _ S 0 [some (.ref (gA X 0)), some (vI id)] []
  refine j_aload_n (pc := 0) hC d_M_deadline_0 rfl ?_
  refine j_iload_n (pc := 1) hC d_M_deadline_1 rfl ?_
  refine jm_calli1 (pc := 2) hC hG (cw_M_79 (by decide)) rfl d_M_deadline_2 (c_M_there S ho id i1 i2) (fun z S2 p o2 => ?_)
  refine J.eqs p.1 ?_
  replace p := p.2
  unfold thereId at p
  refine j_if_eq (pc := 5) (tgt := 17) hC d_M_deadline_5 (by decide) (fun w5 => ?_) (fun w5 => ?_)
  · refine j_iconst (pc := 17) hC d_M_deadline_17 ?_
    exact j_iret (pc := 18) hC d_M_deadline_18 (⟨rfl, Or.inr ⟨by unfold thereId; omega, rfl⟩⟩)
  · refine j_aload_n (pc := 8) hC d_M_deadline_8 rfl ?_
    refine jm_gf_dead (pc := 9) hC hG d_M_deadline_9 ?_
    refine j_iload_n (pc := 12) hC d_M_deadline_12 rfl ?_
    refine jm_ld_dead (pc := 13) hC hG d_M_deadline_13 (fun l13 u13 => ?_)
    refine j_goto (pc := 14) (tgt := 18) hC d_M_deadline_14 (by decide) ?_
    exact j_iret (pc := 18) hC d_M_deadline_18 (⟨rfl, Or.inl ⟨by unfold thereId; omega, rfl⟩⟩)
theorem c_M_jobs (S : St) (ho : okM S) : Ct MW okM y_M_jobs b_M_jobs 1 (some .int) 1 [] S (fun z u => askMI S u 0 40 6 ∧ z = u 0 2) := by
  refine Ct.of (by decide) (Nat.le_of_ble_eq_true rfl) ho (fun X hW hk hC => ?_)
  have hG : GM X := ⟨hW, hk⟩
  replace hC : CX X R_M b_M_jobs 1 (some .int) 1 := hC
  show J X 1 (some .int) _ S 0 [some (.ref (gA X 0))] []
  refine j_aload_n (pc := 0) hC d_M_jobs_0 rfl ?_
  refine j_iconst (pc := 1) hC d_M_jobs_1 ?_
  refine j_bipush (pc := 2) hC d_M_jobs_2 (by decide) ?_
  refine jm_callv2 (pc := 4) hC hG (cw_M_68 (by decide)) rfl d_M_jobs_4 (c_M_ask S ho 0 40 (by omega) (by omega) (by omega) (by omega)) (fun S4 p4 o4 => ?_)
  refine j_aload_n (pc := 7) hC d_M_jobs_7 rfl ?_
  refine jm_gf_all (pc := 8) hC hG d_M_jobs_8 (fun l8 u8 => ?_)
  exact j_iret (pc := 11) hC d_M_jobs_11 (⟨p4, rfl⟩)
theorem c_M_withdraw (S : St) (ho : okM S) (id : Int) (i1 : -2147483648 ≤ id) (i2 : id ≤ 2147483647) : Ct MW okM y_M_withdraw b_M_withdraw 2 (some .boolean) 1 [id] S (fun z u => (thereId S id ∧ z = 1 ∧ u = s2 S 1 id 0) ∨ (¬ thereId S id ∧ z = 0 ∧ u = S)) := by
  refine Ct.of (by decide) (Nat.le_of_ble_eq_true rfl) ho (fun X hW hk hC => ?_)
  have hG : GM X := ⟨hW, hk⟩
  replace hC : CX X R_M b_M_withdraw 2 (some .boolean) 1 := hC
  show J X 2 (some .boolean) _ S 0 [some (.ref (gA X 0)), some (vI id)] []
  refine j_aload_n (pc := 0) hC d_M_withdraw_0 rfl ?_
  refine j_iload_n (pc := 1) hC d_M_withdraw_1 rfl ?_
  refine jm_calli1 (pc := 2) hC hG (cw_M_79 (by decide)) rfl d_M_withdraw_2 (c_M_there S ho id i1 i2) (fun z S2 p o2 => ?_)
  refine J.eqs p.1 ?_
  replace p := p.2
  unfold thereId at p
  refine j_if_ne (pc := 5) (tgt := 10) hC d_M_withdraw_5 (by decide) (fun w5 => ?_) (fun w5 => ?_)
  · refine j_aload_n (pc := 10) hC d_M_withdraw_10 rfl ?_
    refine jm_gf_held (pc := 11) hC hG d_M_withdraw_11 ?_
    refine j_iload_n (pc := 14) hC d_M_withdraw_14 rfl ?_
    refine j_iconst (pc := 15) hC d_M_withdraw_15 ?_
    refine jm_st_held (pc := 16) hC hG d_M_withdraw_16 ?_
    refine j_iconst (pc := 17) hC d_M_withdraw_17 ?_
    exact j_zret (pc := 18) hC d_M_withdraw_18 (Or.inl ⟨by unfold thereId; omega, rfl, rfl⟩)
  · refine j_iconst (pc := 8) hC d_M_withdraw_8 ?_
    exact j_zret (pc := 9) hC d_M_withdraw_9 (Or.inr ⟨by unfold thereId; omega, rfl, rfl⟩)
theorem c_M_unblock (S : St) (ho : okM S) (k : Int) (i1 : -2147483648 ≤ k) (i2 : k ≤ 2147483647) : Ct MW okM y_M_unblock b_M_unblock 2 (some .boolean) 0 [k] S (fun z u => (0 ≤ k ∧ k < 4 ∧ S 4 k = 1 ∧ z = 1 ∧ u = s2 S 4 k 0) ∨ (¬ (0 ≤ k ∧ k < 4 ∧ S 4 k = 1) ∧ z = 0 ∧ u = S)) := by
  refine Ct.of (by decide) (Nat.le_of_ble_eq_true rfl) ho (fun X hW hk hC => ?_)
  have hG : GM X := ⟨hW, hk⟩
  replace hC : CX X R_M b_M_unblock 2 (some .boolean) 0 := hC
  show J X 2 (some .boolean) _ S 0 [some (.ref (gA X 0)), some (vI k)] []
  refine j_iload_n (pc := 0) hC d_M_unblock_0 rfl ?_
  refine j_if_lt (pc := 1) (tgt := 18) hC d_M_unblock_1 (by decide) (fun w1 => ?_) (fun w1 => ?_)
  · refine j_iconst (pc := 18) hC d_M_unblock_18 ?_
    exact j_zret (pc := 19) hC d_M_unblock_19 (Or.inr ⟨by omega, rfl, rfl⟩)
  · refine j_iload_n (pc := 4) hC d_M_unblock_4 rfl ?_
    refine j_iconst (pc := 5) hC d_M_unblock_5 ?_
    refine j_icmp_ge (pc := 6) (tgt := 18) hC d_M_unblock_6 (by decide) (fun w6 => ?_) (fun w6 => ?_)
    · refine j_iconst (pc := 18) hC d_M_unblock_18 ?_
      exact j_zret (pc := 19) hC d_M_unblock_19 (Or.inr ⟨by omega, rfl, rfl⟩)
    · refine j_aload_n (pc := 9) hC d_M_unblock_9 rfl ?_
      refine jm_gf_shut (pc := 10) hC hG d_M_unblock_10 ?_
      refine j_iload_n (pc := 13) hC d_M_unblock_13 rfl ?_
      refine jm_ld_shut (pc := 14) hC hG d_M_unblock_14 (fun l14 u14 => ?_)
      refine j_if_ne (pc := 15) (tgt := 20) hC d_M_unblock_15 (by decide) (fun w15 => ?_) (fun w15 => ?_)
      · refine j_aload_n (pc := 20) hC d_M_unblock_20 rfl ?_
        refine jm_gf_shut (pc := 21) hC hG d_M_unblock_21 ?_
        refine j_iload_n (pc := 24) hC d_M_unblock_24 rfl ?_
        refine j_iconst (pc := 25) hC d_M_unblock_25 ?_
        refine jm_st_shut (pc := 26) hC hG d_M_unblock_26 ?_
        refine j_iconst (pc := 27) hC d_M_unblock_27 ?_
        exact j_zret (pc := 28) hC d_M_unblock_28 (Or.inl ⟨by omega, by omega, by omega, rfl, rfl⟩)
      · refine j_iconst (pc := 18) hC d_M_unblock_18 ?_
        exact j_zret (pc := 19) hC d_M_unblock_19 (Or.inr ⟨by omega, rfl, rfl⟩)
end LeafM
end
section
-- THE MODEL: extend(t, set), fits(): all sets of jobs that can be done by a time
/-- one job more from t on -/
def sucJ (S : St) (t s k x : Int) : Prop := ∃ j, 0 ≤ j ∧ j < k ∧ hb (S 0 2) j ∧ ¬ hb s j ∧ S 7 j ≤ t ∧ t + S 0 0 ≤ S 8 j ∧ x = (t + S 0 0) * 128 + iOr s (pw j)
def sucM (S : St) (t s x : Int) : Prop := (t < 40 ∧ x = (t + 1) * 128 + s) ∨ (t + S 0 0 ≤ 40 ∧ clrM S t 4 ∧ sucJ S t s 7 x)
def extQ (S U : St) (t s : Int) : Prop := (∀ b i, b ≠ 9 → U b i = S b i) ∧ ∀ x, U 9 x = 1 ↔ S 9 x = 1 ∨ sucM S t s x
def extI (S U : St) (t s k : Int) : Prop := (∀ b i, b ≠ 9 → U b i = S b i) ∧ ∀ x, U 9 x = 1 ↔ S 9 x = 1 ∨ (t < 40 ∧ x = (t + 1) * 128 + s) ∨ sucJ S t s k x
theorem ext_skip {S U : St} {t s k : Int} (h : extI S U t s k) (q : ¬ (hb (S 0 2) k ∧ ¬ hb s k ∧ S 7 k ≤ t ∧ t + S 0 0 ≤ S 8 k)) : extI S U t s (k + 1) := by
  refine ⟨h.1, fun x => (h.2 x).trans ?_⟩
  have : sucJ S t s k x ↔ sucJ S t s (k + 1) x := by
    constructor
    · rintro ⟨j, j1, j2, j3⟩
      exact ⟨j, j1, by omega, j3⟩
    · rintro ⟨j, j1, j2, j3, j4, j5, j6, j7⟩
      rcases (show j < k ∨ j = k by omega) with e | rfl
      · exact ⟨j, j1, e, j3, j4, j5, j6, j7⟩
      · exact absurd ⟨j3, j4, j5, j6⟩ q
  rw [this]
theorem ext_take {S U : St} {t s k : Int} (h : extI S U t s k) (h0 : 0 ≤ k) (q : hb (S 0 2) k ∧ ¬ hb s k ∧ S 7 k ≤ t ∧ t + S 0 0 ≤ S 8 k) : extI S (s2 U 9 ((t + S 0 0) * 128 + iOr s (pw k)) 1) t s (k + 1) := by
  refine ⟨fun b i e => by rw [s2_ne (fun z => e z.1)]; exact h.1 b i e, fun x => ?_⟩
  by_cases e : x = (t + S 0 0) * 128 + iOr s (pw k)
  · rw [e, s2_eq]
    exact ⟨fun _ => Or.inr (Or.inr ⟨k, h0, by omega, q.1, q.2.1, q.2.2.1, q.2.2.2, rfl⟩), fun _ => rfl⟩
  · rw [s2_ne (fun z => e z.2), h.2 x]
    have : sucJ S t s k x ↔ sucJ S t s (k + 1) x := by
      constructor
      · rintro ⟨j, j1, j2, j3⟩
        exact ⟨j, j1, by omega, j3⟩
      · rintro ⟨j, j1, j2, j3, j4, j5, j6, j7⟩
        rcases (show j < k ∨ j = k by omega) with e2 | rfl
        · exact ⟨j, j1, e2, j3, j4, j5, j6, j7⟩
        · exact absurd j7 e
    rw [this]
theorem sucJ_0 {S : St} {t s x : Int} : ¬ sucJ S t s 0 x := by
  rintro ⟨j, j1, j2, -⟩
  omega
section DpM
variable {X : Cx} {S : St} {post : Int → St → Prop}
theorem lp_M_extend {t s : Int} (hC : CX X R_M b_M_extend 5 none 1) (hG : GM X) (t0 : 0 ≤ t) (s0 : 0 ≤ s) (s1 : s ≤ 127) (ht : t + S 0 0 ≤ 40) (hp : ∀ U, extI S U t s 7 → post 0 U) : ∀ (n : Nat) (k : Int) (U : St), 0 ≤ k → k ≤ 7 → 7 - k < n → extI S U t s k → J X 5 none post U 43 [some (.ref (gA X 0)), some (vI t), some (vI s), some (vI k), none] [] := by
  intro n
  induction n with
  | zero => intro k U h1 h2 h3; omega
  | succ n ih =>
    intro k U h1 h2 h3 hI
    refine jm_ok hG (fun ho => ?_)
    have e00 := hI.1 0 0 (by decide)
    have e02 := hI.1 0 2 (by decide)
    have e7 := hI.1 7 k (by decide)
    have e8 := hI.1 8 k (by decide)
    have hb0 := ho.1
    have hb2 := ho.2.2.1
    have hpw := pw_pos k
    have hA := hb_bit (x := U 0 2) (j := k) hb2.1 h1
    have hB := hb_bit (x := s) (j := k) s0 h1
    have hdA : 0 ≤ U 0 2 / pw k := Int.ediv_nonneg hb2.1 (by omega)
    have hdB : 0 ≤ s / pw k := Int.ediv_nonneg s0 (by omega)
    have hdA2 : U 0 2 / pw k ≤ 127 := Int.le_trans (Int.ediv_le_self _ hb2.1) hb2.2
    have hdB2 : s / pw k ≤ 127 := Int.le_trans (Int.ediv_le_self _ s0) s1
    have h127 : k < 7 → iOr s (pw k) ≤ 127 := fun q => iOr_127 s0 s1 h1 (by omega)
    have hio := iOr_pos s (pw k)
    refine j_iload_n (pc := 43) hC d_M_extend_43 rfl ?_
    refine j_bipush (pc := 44) hC d_M_extend_44 (by decide) ?_
    refine j_icmp_ge (pc := 46) (tgt := 134) hC d_M_extend_46 (by decide) (fun w46 => ?_) (fun w46 => ?_)
    · exact j_vret (pc := 134) hC d_M_extend_134 (hp U (by rw [show (7 : Int) = k by omega]; exact hI))
    · refine j_aload_n (pc := 49) hC d_M_extend_49 rfl ?_
      refine jm_gf_all (pc := 50) hC hG d_M_extend_50 (fun l50 u50 => ?_)
      refine j_iload_n (pc := 53) hC d_M_extend_53 rfl ?_
      refine j_shr (pc := 54) hC d_M_extend_54 ?_
      refine j_iconst (pc := 55) hC d_M_extend_55 ?_
      refine j_and1 (pc := 56) hC d_M_extend_56 ?_
      refine j_iconst (pc := 57) hC d_M_extend_57 ?_
      refine j_icmp_ne (pc := 58) (tgt := 73) hC d_M_extend_58 (by decide) (fun w58 => ?_) (fun w58 => ?_)
      · refine j_iconst (pc := 73) hC d_M_extend_73 ?_
        refine j_istore_4 (pc := 74) hC d_M_extend_74 (by decide) ?_
        refine j_iload (pc := 76) hC d_M_extend_76 rfl ?_
        refine j_if_eq (pc := 78) (tgt := 128) hC d_M_extend_78 (by decide) (fun w78 => ?_) (fun w78 => ?_)
        · refine j_iinc_3 (pc := 128) hC d_M_extend_128 (by decide) ?_
          refine j_goto (pc := 131) (tgt := 43) hC d_M_extend_131 (by decide) ?_
          exact j_forget4 1 (ih (k + 1) U (by omega) (by omega) (by omega) (ext_skip hI (fun q => by rw [← e02, ← hA] at q; omega)))
        · exact False.elim (by omega)
      · refine j_iload_n (pc := 61) hC d_M_extend_61 rfl ?_
        refine j_iload_n (pc := 62) hC d_M_extend_62 rfl ?_
        refine j_shr (pc := 63) hC d_M_extend_63 ?_
        refine j_iconst (pc := 64) hC d_M_extend_64 ?_
        refine j_and1 (pc := 65) hC d_M_extend_65 ?_
        refine j_if_ne (pc := 66) (tgt := 73) hC d_M_extend_66 (by decide) (fun w66 => ?_) (fun w66 => ?_)
        · refine j_iconst (pc := 73) hC d_M_extend_73 ?_
          refine j_istore_4 (pc := 74) hC d_M_extend_74 (by decide) ?_
          refine j_iload (pc := 76) hC d_M_extend_76 rfl ?_
          refine j_if_eq (pc := 78) (tgt := 128) hC d_M_extend_78 (by decide) (fun w78 => ?_) (fun w78 => ?_)
          · refine j_iinc_3 (pc := 128) hC d_M_extend_128 (by decide) ?_
            refine j_goto (pc := 131) (tgt := 43) hC d_M_extend_131 (by decide) ?_
            exact j_forget4 1 (ih (k + 1) U (by omega) (by omega) (by omega) (ext_skip hI (fun q => q.2.1 (hB.mp (by omega)))))
          · exact False.elim (by omega)
        · refine j_iconst (pc := 69) hC d_M_extend_69 ?_
          refine j_goto (pc := 70) (tgt := 74) hC d_M_extend_70 (by decide) ?_
          refine j_istore_4 (pc := 74) hC d_M_extend_74 (by decide) ?_
          refine j_iload (pc := 76) hC d_M_extend_76 rfl ?_
          refine j_if_eq (pc := 78) (tgt := 128) hC d_M_extend_78 (by decide) (fun w78 => ?_) (fun w78 => ?_)
          · exact False.elim (by omega)
          · have h127 := h127 (by omega)
            refine j_aload_n (pc := 81) hC d_M_extend_81 rfl ?_
            refine jm_gf_lo (pc := 82) hC hG d_M_extend_82 ?_
            refine j_iload_n (pc := 85) hC d_M_extend_85 rfl ?_
            refine jm_ld_lo (pc := 86) hC hG d_M_extend_86 (fun l86 u86 => ?_)
            refine j_iload_n (pc := 87) hC d_M_extend_87 rfl ?_
            refine j_icmp_gt (pc := 88) (tgt := 128) hC d_M_extend_88 (by decide) (fun w88 => ?_) (fun w88 => ?_)
            · refine j_iinc_3 (pc := 128) hC d_M_extend_128 (by decide) ?_
              refine j_goto (pc := 131) (tgt := 43) hC d_M_extend_131 (by decide) ?_
              exact j_forget4 1 (ih (k + 1) U (by omega) (by omega) (by omega) (ext_skip hI (fun q => by omega)))
            · refine j_iload_n (pc := 91) hC d_M_extend_91 rfl ?_
              refine j_aload_n (pc := 92) hC d_M_extend_92 rfl ?_
              refine jm_gf_len (pc := 93) hC hG d_M_extend_93 (fun l93 u93 => ?_)
              refine j_iadd (pc := 96) hC d_M_extend_96 ?_
              refine j_aload_n (pc := 97) hC d_M_extend_97 rfl ?_
              refine jm_gf_hi (pc := 98) hC hG d_M_extend_98 ?_
              refine j_iload_n (pc := 101) hC d_M_extend_101 rfl ?_
              refine jm_ld_hi (pc := 102) hC hG d_M_extend_102 (fun l102 u102 => ?_)
              refine j_icmp_gt (pc := 103) (tgt := 128) hC d_M_extend_103 (by decide) (fun w103 => ?_) (fun w103 => ?_)
              · refine j_iinc_3 (pc := 128) hC d_M_extend_128 (by decide) ?_
                refine j_goto (pc := 131) (tgt := 43) hC d_M_extend_131 (by decide) ?_
                exact j_forget4 1 (ih (k + 1) U (by omega) (by omega) (by omega) (ext_skip hI (fun q => by omega)))
              · refine j_aload_n (pc := 106) hC d_M_extend_106 rfl ?_
                refine jm_gf_can (pc := 107) hC hG d_M_extend_107 ?_
                refine j_iload_n (pc := 110) hC d_M_extend_110 rfl ?_
                refine j_aload_n (pc := 111) hC d_M_extend_111 rfl ?_
                refine jm_gf_len (pc := 112) hC hG d_M_extend_112 (fun l112 u112 => ?_)
                refine j_iadd (pc := 115) hC d_M_extend_115 ?_
                refine j_sipush (pc := 116) hC d_M_extend_116 (by decide) ?_
                refine j_imul (pc := 119) hC d_M_extend_119 ?_
                refine j_iload_n (pc := 120) hC d_M_extend_120 rfl ?_
                refine j_iconst (pc := 121) hC d_M_extend_121 ?_
                refine j_iload_n (pc := 122) hC d_M_extend_122 rfl ?_
                refine j_shl1 (pc := 123) hC d_M_extend_123 ?_
                refine j_ior (pc := 124) hC d_M_extend_124 ?_
                refine j_iadd (pc := 125) hC d_M_extend_125 ?_
                refine j_iconst (pc := 126) hC d_M_extend_126 ?_
                refine jm_st_can (pc := 127) hC hG d_M_extend_127 ?_
                refine j_iinc_3 (pc := 128) hC d_M_extend_128 (by decide) ?_
                refine j_goto (pc := 131) (tgt := 43) hC d_M_extend_131 (by decide) ?_
                exact j_forget4 1 (ih (k + 1) _ (by omega) (by omega) (by omega) (by rw [e00]; exact ext_take hI h1 ⟨by rw [← e02]; exact hA.mp (by omega), fun q => by rw [← hB] at q; omega, by omega, by omega⟩))
theorem c_M_extend (S : St) (ho : okM S) (t s : Int) (t0 : 0 ≤ t) (t1 : t ≤ 40) (s0 : 0 ≤ s) (s1 : s ≤ 127) : Ct MW okM y_M_extend b_M_extend 5 none 1 [t, s] S (fun _ u => extQ S u t s) := by
  refine Ct.of (by decide) (Nat.le_of_ble_eq_true rfl) ho (fun X hW hk hC => ?_)
  have hG : GM X := ⟨hW, hk⟩
  replace hC : CX X R_M b_M_extend 5 none 1 := hC
  show J X 5 none _ S 0 [some (.ref (gA X 0)), some (vI t), some (vI s), none, none] []
  have hb0 := ho.1
  refine j_iload_n (pc := 0) hC d_M_extend_0 rfl ?_
  refine j_bipush (pc := 1) hC d_M_extend_1 (by decide) ?_
  refine j_icmp_ge (pc := 3) (tgt := 21) hC d_M_extend_3 (by decide) (fun w3 => ?_) (fun w3 => ?_)
  · refine j_iload_n (pc := 21) hC d_M_extend_21 rfl ?_
    refine j_aload_n (pc := 22) hC d_M_extend_22 rfl ?_
    refine jm_gf_len (pc := 23) hC hG d_M_extend_23 (fun l23 u23 => ?_)
    refine j_iadd (pc := 26) hC d_M_extend_26 ?_
    refine j_bipush (pc := 27) hC d_M_extend_27 (by decide) ?_
    refine j_icmp_gt (pc := 29) (tgt := 40) (x := t + S 0 0) hC d_M_extend_29 (by decide) (fun w29 => ?_) (fun w29 => ?_)
    · exact j_vret (pc := 40) hC d_M_extend_40 (⟨fun _ _ _ => rfl, fun x => ⟨fun h => Or.inl h, fun h => by rcases h with h | h | h; (exact h); (omega); (omega)⟩⟩)
    · refine j_aload_n (pc := 32) hC d_M_extend_32 rfl ?_
      refine j_iload_n (pc := 33) hC d_M_extend_33 rfl ?_
      refine jm_calli1 (pc := 34) hC hG (cw_M_52 (by decide)) rfl d_M_extend_34 (c_M_clear S ho t (by omega) (by omega)) (fun z S34 p34 o34 => ?_)
      refine J.eqs p34.1 ?_
      replace p34 := p34.2
      have hz : z = 0 ∨ z = 1 := by rcases p34 with q | q; (right; exact q.1); (left; exact q.1)
      refine j_if_ne (pc := 37) (tgt := 41) hC d_M_extend_37 (by decide) (fun w37 => ?_) (fun w37 => ?_)
      · refine j_iconst (pc := 41) hC d_M_extend_41 ?_
        refine j_istore_3 (pc := 42) hC d_M_extend_42 (by decide) ?_
        refine lp_M_extend (S := S) hC hG t0 s0 s1 (by omega) (fun U hU => ?_) 10 0 S (by omega) (by omega) (by omega) ⟨fun _ _ _ => rfl, fun x => ⟨fun h => Or.inl h, fun h => by rcases h with h | h | h; (exact h); (omega); (exact absurd h sucJ_0)⟩⟩
        refine ⟨hU.1, fun x => (hU.2 x).trans ?_⟩
        rcases p34 with ⟨q1, q2⟩ | ⟨q1, q2⟩
        · constructor
          · rintro (h | h | h)
            · exact Or.inl h
            · exact Or.inr (Or.inl h)
            · exact Or.inr (Or.inr ⟨by omega, q2, h⟩)
          · rintro (h | h | ⟨-, -, h⟩)
            · exact Or.inl h
            · exact Or.inr (Or.inl h)
            · exact Or.inr (Or.inr h)
        · omega
      · exact j_vret (pc := 40) hC d_M_extend_40 (⟨fun _ _ _ => rfl, fun x => ⟨fun h => Or.inl h, fun h => by
                rcases h with h | h | h
                · exact h
                · omega
                · rcases p34 with ⟨q1, q2⟩ | ⟨q1, q2⟩
                  · omega
                  · exact absurd h.2.1 q2⟩⟩)
  · refine j_aload_n (pc := 6) hC d_M_extend_6 rfl ?_
    refine jm_gf_can (pc := 7) hC hG d_M_extend_7 ?_
    refine j_iload_n (pc := 10) hC d_M_extend_10 rfl ?_
    refine j_iconst (pc := 11) hC d_M_extend_11 ?_
    refine j_iadd (pc := 12) hC d_M_extend_12 ?_
    refine j_sipush (pc := 13) hC d_M_extend_13 (by decide) ?_
    refine j_imul (pc := 16) hC d_M_extend_16 ?_
    refine j_iload_n (pc := 17) hC d_M_extend_17 rfl ?_
    refine j_iadd (pc := 18) hC d_M_extend_18 ?_
    refine j_iconst (pc := 19) hC d_M_extend_19 ?_
    refine jm_st_can (pc := 20) hC hG d_M_extend_20 ?_
    refine j_iload_n (pc := 21) hC d_M_extend_21 rfl ?_
    refine j_aload_n (pc := 22) hC d_M_extend_22 rfl ?_
    refine jm_gf_len (pc := 23) hC hG d_M_extend_23 (fun l23 u23 => ?_)
    refine j_iadd (pc := 26) hC d_M_extend_26 ?_
    refine j_bipush (pc := 27) hC d_M_extend_27 (by decide) ?_
    refine j_icmp_gt (pc := 29) (tgt := 40) (x := t + S 0 0) hC d_M_extend_29 (by decide) (fun w29 => ?_) (fun w29 => ?_)
    · exact j_vret (pc := 40) hC d_M_extend_40 (⟨fun b i e => s2_ne (fun z => e z.1), fun x => by
              by_cases e : x = (t + 1) * 128 + s
              · rw [e, s2_eq]; exact ⟨fun _ => Or.inr (Or.inl ⟨by omega, rfl⟩), fun _ => rfl⟩
              · rw [s2_ne (fun z => e z.2)]
                exact ⟨fun h => Or.inl h, fun h => by rcases h with h | h | h; (exact h); (exact absurd h.2 e); (omega)⟩⟩)
    · refine j_aload_n (pc := 32) hC d_M_extend_32 rfl ?_
      refine j_iload_n (pc := 33) hC d_M_extend_33 rfl ?_
      refine jm_calli1 (pc := 34) hC hG (cw_M_52 (by decide)) rfl d_M_extend_34 (c_M_clear (s2 S 9 ((t + 1) * 128 + s) 1) (okM_can ho (by omega) (by omega)) t (by omega) (by omega)) (fun z S34 p34 o34 => ?_)
      refine J.eqs p34.1 ?_
      replace p34 := p34.2
      have hz : z = 0 ∨ z = 1 := by rcases p34 with q | q; (right; exact q.1); (left; exact q.1)
      refine j_if_ne (pc := 37) (tgt := 41) hC d_M_extend_37 (by decide) (fun w37 => ?_) (fun w37 => ?_)
      · refine j_iconst (pc := 41) hC d_M_extend_41 ?_
        refine j_istore_3 (pc := 42) hC d_M_extend_42 (by decide) ?_
        refine lp_M_extend (S := S) hC hG t0 s0 s1 (by omega) (fun U hU => ?_) 10 0 _ (by omega) (by omega) (by omega) ⟨fun b i e => s2_ne (fun z => e z.1), fun x => ?_⟩
        · refine ⟨hU.1, fun x => (hU.2 x).trans ?_⟩
          rcases p34 with ⟨q1, q2⟩ | ⟨q1, q2⟩
          · constructor
            · rintro (h | h | h)
              · exact Or.inl h
              · exact Or.inr (Or.inl h)
              · exact Or.inr (Or.inr ⟨by omega, q2, h⟩)
            · rintro (h | h | ⟨-, -, h⟩)
              · exact Or.inl h
              · exact Or.inr (Or.inl h)
              · exact Or.inr (Or.inr h)
          · omega
        · by_cases e : x = (t + 1) * 128 + s
          · rw [e, s2_eq]; exact ⟨fun _ => Or.inr (Or.inl ⟨by omega, rfl⟩), fun _ => rfl⟩
          · rw [s2_ne (fun z => e z.2)]
            exact ⟨fun h => Or.inl h, fun h => by rcases h with h | h | h; (exact h); (exact absurd h.2 e); (exact absurd h sucJ_0)⟩
      · exact j_vret (pc := 40) hC d_M_extend_40 (⟨fun b i e => s2_ne (fun z => e z.1), fun x => by
                by_cases e : x = (t + 1) * 128 + s
                · rw [e, s2_eq]; exact ⟨fun _ => Or.inr (Or.inl ⟨by omega, rfl⟩), fun _ => rfl⟩
                · rw [s2_ne (fun z => e z.2)]
                  refine ⟨fun h => Or.inl h, fun h => ?_⟩
                  rcases h with h | h | h
                  · exact h
                  · exact absurd h.2 e
                  · rcases p34 with ⟨q1, q2⟩ | ⟨q1, q2⟩
                    · omega
                    · exact absurd h.2.1 q2⟩)
end DpM
end
section
-- THE MODEL: fits()
def bits (s : Int) : Int → Prop := fun j => 0 ≤ j ∧ j < 7 ∧ hb s j
def Rch (S : St) (t s : Int) : Prop := (∀ j, 0 ≤ j → hb s j → hb (S 0 2) j) ∧ ∃ st, Plan (bits s) (S 0 0) (S 7) (S 8) (fun x => okS S x ∧ x + S 0 0 ≤ t) st
def PlanM (S : St) (st : Int → Int) : Prop := Plan (bits (S 0 2)) (S 0 0) (S 7) (S 8) (okS S) st
def fitQ (S : St) (z : Int) (u : St) : Prop := (∀ b i, b ≠ 9 → u b i = S b i) ∧ ((z = 1 ∧ ∃ st, PlanM S st) ∨ (z = 0 ∧ ∀ st, ¬ PlanM S st))
def clI (S U : St) (t s : Int) : Prop := (∀ b i, b ≠ 9 → U b i = S b i) ∧ ∀ t' s', 0 ≤ t' → 0 ≤ s' → s' ≤ S 0 2 → (t' < t ∨ (t' = t ∧ s' < s)) → U 9 (t' * 128 + s') = 0
def dpI (S U : St) (t0 s0 : Int) : Prop := (∀ b i, b ≠ 9 → U b i = S b i) ∧ U 9 0 = 1 ∧ (∀ t s, 0 ≤ t → t ≤ 40 → 0 ≤ s → s ≤ S 0 2 → U 9 (t * 128 + s) = 1 → Rch S t s) ∧
  ∀ t s, 0 ≤ t → t ≤ 40 → 0 ≤ s → s ≤ S 0 2 → (t < t0 ∨ (t = t0 ∧ s < s0)) → U 9 (t * 128 + s) = 1 → ∀ x, sucM S t s x → U 9 x = 1
theorem suc_congr {S U : St} (h : ∀ b i, b ≠ 9 → U b i = S b i) (t s x : Int) : sucM U t s x ↔ sucM S t s x := by
  have h0 : ∀ i, U 0 i = S 0 i := fun i => h 0 i (by decide)
  have h4 : ∀ i, U 4 i = S 4 i := fun i => h 4 i (by decide)
  have h5 : ∀ i, U 5 i = S 5 i := fun i => h 5 i (by decide)
  have h6 : ∀ i, U 6 i = S 6 i := fun i => h 6 i (by decide)
  have h7 : ∀ i, U 7 i = S 7 i := fun i => h 7 i (by decide)
  have h8 : ∀ i, U 8 i = S 8 i := fun i => h 8 i (by decide)
  unfold sucM sucJ clrM
  simp only [h0, h4, h5, h6, h7, h8]
theorem rch_mono {S : St} {t t' s : Int} (h : Rch S t s) (ht : t ≤ t') : Rch S t' s := by
  obtain ⟨h1, st, h2, h3⟩ := h
  refine ⟨h1, st, fun i hi => ?_, h3⟩
  obtain ⟨a, b, c, d⟩ := h2 i hi
  exact ⟨a, b, c, by omega⟩
theorem rch_add {S : St} {t s j : Int} (p0 : 0 ≤ S 0 0) (hr : Rch S t s) (t0 : 0 ≤ t) (ht : t + S 0 0 ≤ 40) (hc : clrM S t 4) (j0 : 0 ≤ j) (j1 : j < 7) (ha : hb (S 0 2) j) (hs : ¬ hb s j) (h7 : S 7 j ≤ t) (h8 : t + S 0 0 ≤ S 8 j) : Rch S (t + S 0 0) (iOr s (pw j)) := by
  obtain ⟨h1, st, h2, h3⟩ := hr
  have hcase : ∀ i, bits (iOr s (pw j)) i → i = j ∨ (i ≠ j ∧ bits s i) := by
    intro i hi
    by_cases e : i = j
    · exact Or.inl e
    · rcases hb_or.mp hi.2.2 with q | q
      · exact Or.inr ⟨e, hi.1, hi.2.1, q⟩
      · exact absurd ((hb_pw j0 hi.1).mp q).symm e
  refine ⟨fun i i0 hi => ?_, fun i => if i = j then t else st i, fun i hi => ?_, fun a b ha' hb' hab => ?_⟩
  · rcases hb_or.mp hi with q | q
    · exact h1 i i0 q
    · rw [← (hb_pw j0 i0).mp q]; exact ha
  · rcases hcase i hi with rfl | ⟨e, hi⟩
    · simp only [if_true]
      exact ⟨h7, h8, ⟨t0, ht, hc⟩, Int.le_refl _⟩
    · simp only [if_neg e]
      obtain ⟨a, b, c, d⟩ := h2 i hi
      exact ⟨a, b, c, by have := c.1; omega⟩
  · rcases hcase a ha' with rfl | ⟨e1, ha1⟩
    · rcases hcase b hb' with rfl | ⟨e2, hb1⟩
      · exact absurd rfl hab
      · simp only [if_true, if_neg e2]
        have := (h2 b hb1).2.2.2
        right; exact this
    · rcases hcase b hb' with rfl | ⟨e2, hb1⟩
      · simp only [if_true, if_neg e1]
        have := (h2 a ha1).2.2.2
        left; exact this
      · simp only [if_neg e1, if_neg e2]
        exact h3 a b ha1 hb1 hab
theorem dp_ext {S U V : St} {t s : Int} (ho : okM S) (h : dpI S U t s) (t0 : 0 ≤ t) (t1 : t ≤ 40) (s0 : 0 ≤ s) (s1 : s ≤ S 0 2) (hu : U 9 (t * 128 + s) = 1) (he : extQ U V t s) : dpI S V t (s + 1) := by
  obtain ⟨hU, hB, hs, hcl⟩ := h
  have hb0 := ho.1
  have hb2 := ho.2.2.1
  have hV : ∀ x, V 9 x = 1 ↔ U 9 x = 1 ∨ sucM S t s x := fun x => by rw [he.2 x, suc_congr hU]
  have hlater : ∀ t' s', 0 ≤ s' → s' ≤ S 0 2 → sucM S t s (t' * 128 + s') → t < t' ∧ Rch S t' s' := by
    intro t' s' a1 a2 hx
    have hr := hs t s t0 t1 s0 s1 hu
    rcases hx with ⟨q1, q2⟩ | ⟨q1, q2, j, j0, j1, j2, j3, j4, j5, j6⟩
    · have e1 : t' = t + 1 := by omega
      have e2 : s' = s := by omega
      subst e1; subst e2
      exact ⟨by omega, rch_mono hr (by omega)⟩
    · have h127 := iOr_127 (x := s) s0 (by omega) j0 (show j ≤ 6 by omega)
      have hio := iOr_pos s (pw j)
      have e1 : t' = t + S 0 0 := by omega
      have e2 : s' = iOr s (pw j) := by omega
      rw [e1, e2]
      exact ⟨by omega, rch_add (by omega) hr t0 q1 q2 j0 j1 j2 j3 j4 j5⟩
  refine ⟨fun b i e => by rw [he.1 b i e]; exact hU b i e, (hV 0).mpr (Or.inl hB), fun t' s' a1 a2 a3 a4 a5 => ?_, fun t' s' a1 a2 a3 a4 a5 a6 x hx => ?_⟩
  · rcases (hV _).mp a5 with q | q
    · exact hs t' s' a1 a2 a3 a4 q
    · exact (hlater t' s' a3 a4 q).2
  · by_cases e : t' = t ∧ s' = s
    · obtain ⟨rfl, rfl⟩ := e
      exact (hV x).mpr (Or.inr hx)
    · have hq : U 9 (t' * 128 + s') = 1 := by
        rcases (hV _).mp a6 with q | q
        · exact q
        · have := (hlater t' s' a3 a4 q).1
          omega
      exact (hV x).mpr (Or.inl (hcl t' s' a1 a2 a3 a4 (by omega) hq x hx))
theorem dp_skip {S U : St} {t s : Int} (h : dpI S U t s) (hu : ¬ U 9 (t * 128 + s) = 1) : dpI S U t (s + 1) := by
  obtain ⟨hU, hB, hs, hcl⟩ := h
  refine ⟨hU, hB, hs, fun t' s' a1 a2 a3 a4 a5 a6 => ?_⟩
  by_cases e : t' = t ∧ s' = s
  · obtain ⟨rfl, rfl⟩ := e
    exact absurd a6 hu
  · exact hcl t' s' a1 a2 a3 a4 (by omega) a6
theorem dp_row {S U : St} {t s : Int} (h : dpI S U t s) (hs : S 0 2 < s) : dpI S U (t + 1) 0 :=
  ⟨h.1, h.2.1, h.2.2.1, fun t' s' a1 a2 a3 a4 a5 => h.2.2.2 t' s' a1 a2 a3 a4 (by omega)⟩
theorem dp_0 {S U : St} (ho : okM S) (h : clI S U 41 0) : dpI S (s2 U 9 0 1) 0 0 := by
  have hb2 := ho.2.2.1
  refine ⟨fun b i e => by rw [s2_ne (fun z => e z.1)]; exact h.1 b i e, s2_eq _ _ _ _, fun t s a1 a2 a3 a4 a5 => ?_, fun t s a1 a2 a3 a4 a5 => by omega⟩
  by_cases e : t * 128 + s = 0
  · have e1 : t = 0 := by omega
    have e2 : s = 0 := by omega
    subst e1; subst e2
    exact ⟨fun j _ q => absurd q (hb_0 j), fun _ => 0, fun i hi => absurd hi.2.2 (hb_0 i), fun i j hi => absurd hi.2.2 (hb_0 i)⟩
  · rw [s2_ne (fun z => e z.2), h.2 t s a1 a3 a4 (by omega)] at a5
    omega
theorem dp_complete {S U : St} (ho : okM S) (h : dpI S U 41 0) : ∀ (n : Nat) (t s : Int), t < n → 0 ≤ t → t ≤ 40 → 0 ≤ s → Rch S t s → U 9 (t * 128 + s) = 1 := by
  have hb0 := ho.1
  have hb2 := ho.2.2.1
  intro n
  induction n with
  | zero => intro t s h1 h2; omega
  | succ n ih =>
    intro t s h1 h2 h3 h4 hr
    obtain ⟨hsub, st, hp1, hp2⟩ := id hr
    have hsle : s ≤ S 0 2 := hb_le h4 hb2.1 hsub
    have hbit : ∀ j, 0 ≤ j → hb s j → bits s j := fun j j0 q => ⟨j0, hb_lt h4 (by omega) q j0, q⟩
    by_cases hend : ∃ j, 0 ≤ j ∧ hb s j ∧ t - 1 < st j + S 0 0
    · obtain ⟨j, j0, j1, j2⟩ := hend
      have hj := hp1 j (hbit j j0 j1)
      obtain ⟨c1, c2, ⟨c3, c4, c5⟩, c6⟩ := hj
      obtain ⟨y, y0, y1, y2⟩ := hb_del h4 j0 j1
      have hy : ∀ i, 0 ≤ i → hb y i → hb s i := fun i i0 q => ((y2 i i0).mp q).1
      have hyle : y ≤ s := hb_le y0 h4 hy
      have hry : Rch S (st j) y := by
        refine ⟨fun i i0 q => hsub i i0 (hy i i0 q), st, fun i hi => ?_, fun a b ha hb' hab => hp2 a b (hbit a ha.1 (hy a ha.1 ha.2.2)) (hbit b hb'.1 (hy b hb'.1 hb'.2.2)) hab⟩
        have hi2 := (y2 i hi.1).mp hi.2.2
        obtain ⟨d1, d2, d3, d4⟩ := hp1 i (hbit i hi.1 hi2.1)
        refine ⟨d1, d2, d3, ?_⟩
        rcases hp2 i j (hbit i hi.1 hi2.1) (hbit j j0 j1) hi2.2 with q | q <;> omega
      have h5 := ih (st j) y (by omega) (by omega) (by omega) y0 hry
      have h6 := h.2.2.2 (st j) y (by omega) (by omega) y0 (by omega) (by omega) h5 (t * 128 + s) (Or.inr ⟨c4, c5, j, j0, hb_lt h4 (by omega) j1 j0, hsub j j0 j1, fun q => ((y2 j j0).mp q).2 rfl, c1, c2, by rw [y1]; omega⟩)
      exact h6
    · have hno : ∀ j, 0 ≤ j → hb s j → st j + S 0 0 ≤ t - 1 := fun j j0 q => by
        refine Classical.byContradiction (fun hc => hend ⟨j, j0, q, by omega⟩)
      by_cases e : t = 0
      · have hs0 : s = 0 := hb_ext h4 (by omega) (fun j j0 => ⟨fun q => by
          have := hno j j0 q
          have := (hp1 j (hbit j j0 q)).2.2.1.1
          omega, fun q => absurd q (hb_0 j)⟩)
        rw [e, hs0]
        exact h.2.1
      · have hr1 : Rch S (t - 1) s := ⟨hsub, st, fun i hi => by
          obtain ⟨a, b, c, d⟩ := hp1 i hi
          exact ⟨a, b, c, hno i hi.1 hi.2.2⟩, hp2⟩
        have h5 := ih (t - 1) s (by omega) (by omega) (by omega) h4 hr1
        exact h.2.2.2 (t - 1) s (by omega) (by omega) h4 hsle (by omega) h5 (t * 128 + s) (Or.inl ⟨by omega, by omega⟩)
theorem dp_fin {S U : St} {z : Int} (ho : okM S) (h : dpI S U 41 0) (hz : z = U 9 (5120 + U 0 2 % 128)) (z0 : 0 ≤ z) (z1 : z ≤ 1) : fitQ S z U := by
  have hb2 := ho.2.2.1
  have e2 := h.1 0 2 (by decide)
  have hz' : z = U 9 (40 * 128 + S 0 2) := by
    rw [hz, e2, show 5120 + S 0 2 % 128 = 40 * 128 + S 0 2 by omega]
  refine ⟨h.1, ?_⟩
  by_cases e : z = 1
  · left
    obtain ⟨-, st, h1, h2⟩ := h.2.2.1 40 (S 0 2) (by omega) (by omega) hb2.1 (Int.le_refl _) (by omega)
    exact ⟨e, st, fun i hi => ⟨(h1 i hi).1, (h1 i hi).2.1, (h1 i hi).2.2.1⟩, h2⟩
  · right
    refine ⟨by omega, fun st hp => e ?_⟩
    rw [hz']
    exact dp_complete ho h 41 40 (S 0 2) (by omega) (by omega) (by omega) hb2.1 ⟨fun _ _ q => q, st, fun i hi => ⟨(hp.1 i hi).1, (hp.1 i hi).2.1, (hp.1 i hi).2.2, (hp.1 i hi).2.2.2.1⟩, hp.2⟩
section FitsM
variable {X : Cx} {S : St} {post : Int → St → Prop}
theorem lp_M_fits4 {t : Int} (hoS : okM S) (hC : CX X R_M b_M_fits 3 (some .boolean) 2) (hG : GM X) (t0 : 0 ≤ t) (t1 : t ≤ 40) (hk : ∀ U, dpI S U (t + 1) 0 → J X 3 (some .boolean) post U 109 [some (.ref (gA X 0)), some (vI t), none] []) : ∀ (n : Nat) (s : Int) (U : St), 0 ≤ s → s ≤ S 0 2 + 1 → S 0 2 + 1 - s < n → dpI S U t s → J X 3 (some .boolean) post U 67 [some (.ref (gA X 0)), some (vI t), some (vI s)] [] := by
  intro n
  induction n with
  | zero => intro s U h1 h2 h3; omega
  | succ n ih =>
    intro s U h1 h2 h3 hI
    refine jm_ok hG (fun ho => ?_)
    have e2 := hI.1 0 2 (by decide)
    have hb2 := hoS.2.2.1
    refine j_iload_n (pc := 67) hC d_M_fits_67 rfl ?_
    refine j_aload_n (pc := 68) hC d_M_fits_68 rfl ?_
    refine jm_gf_all (pc := 69) hC hG d_M_fits_69 (fun l69 u69 => ?_)
    refine j_icmp_gt (pc := 72) (tgt := 109) hC d_M_fits_72 (by decide) (fun w72 => ?_) (fun w72 => ?_)
    · exact j_forget2 1 (hk U (dp_row hI (by omega)))
    · refine j_iload_n (pc := 75) hC d_M_fits_75 rfl ?_
      refine j_sipush (pc := 76) hC d_M_fits_76 (by decide) ?_
      refine j_icmp_ge (pc := 79) (tgt := 109) hC d_M_fits_79 (by decide) (fun w79 => ?_) (fun w79 => ?_)
      · exact False.elim (by omega)
      · refine j_aload_n (pc := 82) hC d_M_fits_82 rfl ?_
        refine jm_gf_can (pc := 83) hC hG d_M_fits_83 ?_
        refine j_iload_n (pc := 86) hC d_M_fits_86 rfl ?_
        refine j_sipush (pc := 87) hC d_M_fits_87 (by decide) ?_
        refine j_imul (pc := 90) hC d_M_fits_90 ?_
        refine j_iload_n (pc := 91) hC d_M_fits_91 rfl ?_
        refine j_iadd (pc := 92) hC d_M_fits_92 ?_
        refine jm_ld_can (pc := 93) hC hG d_M_fits_93 (fun l93 u93 => ?_)
        refine j_if_eq (pc := 94) (tgt := 103) hC d_M_fits_94 (by decide) (fun w94 => ?_) (fun w94 => ?_)
        · refine j_iinc_2 (pc := 103) hC d_M_fits_103 (by decide) ?_
          refine j_goto (pc := 106) (tgt := 67) hC d_M_fits_106 (by decide) ?_
          exact ih (s + 1) U (by omega) (by omega) (by omega) (dp_skip hI (by omega))
        · refine j_aload_n (pc := 97) hC d_M_fits_97 rfl ?_
          refine j_iload_n (pc := 98) hC d_M_fits_98 rfl ?_
          refine j_iload_n (pc := 99) hC d_M_fits_99 rfl ?_
          refine jm_callv2 (pc := 100) hC hG (cw_M_48 (by decide)) rfl d_M_fits_100 (c_M_extend U ho t s (by omega) (by omega) (by omega) (by omega)) (fun S100 p100 o100 => ?_)
          refine j_iinc_2 (pc := 103) hC d_M_fits_103 (by decide) ?_
          refine j_goto (pc := 106) (tgt := 67) hC d_M_fits_106 (by decide) ?_
          exact ih (s + 1) _ (by omega) (by omega) (by omega) (dp_ext hoS hI t0 t1 h1 (by omega) (by omega) p100)
theorem lp_M_fits3 (hoS : okM S) (hC : CX X R_M b_M_fits 3 (some .boolean) 2) (hG : GM X) (hp : ∀ z u, fitQ S z u → post z u) : ∀ (n : Nat) (t : Int) (U : St), 0 ≤ t → t ≤ 41 → 41 - t < n → dpI S U t 0 → J X 3 (some .boolean) post U 59 [some (.ref (gA X 0)), some (vI t), none] [] := by
  intro n
  induction n with
  | zero => intro t U h1 h2 h3; omega
  | succ n ih =>
    intro t U h1 h2 h3 hI
    have e2 := hI.1 0 2 (by decide)
    have hb2 := hoS.2.2.1
    refine j_iload_n (pc := 59) hC d_M_fits_59 rfl ?_
    refine j_bipush (pc := 60) hC d_M_fits_60 (by decide) ?_
    refine j_icmp_gt (pc := 62) (tgt := 115) hC d_M_fits_62 (by decide) (fun w62 => ?_) (fun w62 => ?_)
    · refine j_aload_n (pc := 115) hC d_M_fits_115 rfl ?_
      refine jm_gf_can (pc := 116) hC hG d_M_fits_116 ?_
      refine j_sipush (pc := 119) hC d_M_fits_119 (by decide) ?_
      refine j_aload_n (pc := 122) hC d_M_fits_122 rfl ?_
      refine jm_gf_all (pc := 123) hC hG d_M_fits_123 (fun l123 u123 => ?_)
      refine j_bipush (pc := 126) hC d_M_fits_126 (by decide) ?_
      refine j_and127 (pc := 128) hC d_M_fits_128 ?_
      refine j_iadd (pc := 129) hC d_M_fits_129 ?_
      refine jm_ld_can (pc := 130) hC hG d_M_fits_130 (fun l130 u130 => ?_)
      exact j_zret (pc := 131) hC d_M_fits_131 (hp _ _ (dp_fin hoS (by rw [show (41 : Int) = t by omega]; exact hI) rfl (by omega) (by omega)))
    · refine j_iconst (pc := 65) hC d_M_fits_65 ?_
      refine j_istore_2 (pc := 66) hC d_M_fits_66 (by decide) ?_
      refine lp_M_fits4 hoS hC hG h1 (by omega) (fun V hV => ?_) 200 0 U (by omega) (by omega) (by omega) hI
      refine j_iinc_1 (pc := 109) hC d_M_fits_109 (by decide) ?_
      refine j_goto (pc := 112) (tgt := 59) hC d_M_fits_112 (by decide) ?_
      exact ih (t + 1) V (by omega) (by omega) (by omega) hV
theorem lp_M_fits2 {t : Int} (hoS : okM S) (hC : CX X R_M b_M_fits 3 (some .boolean) 2) (hG : GM X) (t0 : 0 ≤ t) (t1 : t ≤ 40) (hk : ∀ U, clI S U (t + 1) 0 → J X 3 (some .boolean) post U 44 [some (.ref (gA X 0)), some (vI t), none] []) : ∀ (n : Nat) (s : Int) (U : St), 0 ≤ s → s ≤ S 0 2 + 1 → S 0 2 + 1 - s < n → clI S U t s → J X 3 (some .boolean) post U 10 [some (.ref (gA X 0)), some (vI t), some (vI s)] [] := by
  intro n
  induction n with
  | zero => intro s U h1 h2 h3; omega
  | succ n ih =>
    intro s U h1 h2 h3 hI
    have e2 := hI.1 0 2 (by decide)
    have hb2 := hoS.2.2.1
    refine j_iload_n (pc := 10) hC d_M_fits_10 rfl ?_
    refine j_aload_n (pc := 11) hC d_M_fits_11 rfl ?_
    refine jm_gf_all (pc := 12) hC hG d_M_fits_12 (fun l12 u12 => ?_)
    refine j_icmp_gt (pc := 15) (tgt := 44) hC d_M_fits_15 (by decide) (fun w15 => ?_) (fun w15 => ?_)
    · exact j_forget2 1 (hk U ⟨hI.1, fun t2 s2 a1 a2 a3 a4 => hI.2 t2 s2 a1 a2 a3 (by omega)⟩)
    · refine j_iload_n (pc := 18) hC d_M_fits_18 rfl ?_
      refine j_sipush (pc := 19) hC d_M_fits_19 (by decide) ?_
      refine j_icmp_ge (pc := 22) (tgt := 44) hC d_M_fits_22 (by decide) (fun w22 => ?_) (fun w22 => ?_)
      · exact False.elim (by omega)
      · refine j_aload_n (pc := 25) hC d_M_fits_25 rfl ?_
        refine jm_gf_can (pc := 26) hC hG d_M_fits_26 ?_
        refine j_iload_n (pc := 29) hC d_M_fits_29 rfl ?_
        refine j_sipush (pc := 30) hC d_M_fits_30 (by decide) ?_
        refine j_imul (pc := 33) hC d_M_fits_33 ?_
        refine j_iload_n (pc := 34) hC d_M_fits_34 rfl ?_
        refine j_iadd (pc := 35) hC d_M_fits_35 ?_
        refine j_iconst (pc := 36) hC d_M_fits_36 ?_
        refine jm_st_can (pc := 37) hC hG d_M_fits_37 ?_
        refine j_iinc_2 (pc := 38) hC d_M_fits_38 (by decide) ?_
        refine j_goto (pc := 41) (tgt := 10) hC d_M_fits_41 (by decide) ?_
        exact ih (s + 1) _ (by omega) (by omega) (by omega) ⟨fun b i e => by rw [s2_ne (fun z => e z.1)]; exact hI.1 b i e, fun t2 q a1 a2 a3 a4 => by
          by_cases e : t2 * 128 + q = t * 128 + s
          · rw [e, s2_eq]
          · rw [s2_ne (fun z => e z.2)]; exact hI.2 t2 q a1 a2 a3 (by omega)⟩
theorem lp_M_fits1 (hoS : okM S) (hC : CX X R_M b_M_fits 3 (some .boolean) 2) (hG : GM X) (hp : ∀ z u, fitQ S z u → post z u) : ∀ (n : Nat) (t : Int) (U : St), 0 ≤ t → t ≤ 41 → 41 - t < n → clI S U t 0 → J X 3 (some .boolean) post U 2 [some (.ref (gA X 0)), some (vI t), none] [] := by
  intro n
  induction n with
  | zero => intro t U h1 h2 h3; omega
  | succ n ih =>
    intro t U h1 h2 h3 hI
    have e2 := hI.1 0 2 (by decide)
    have hb2 := hoS.2.2.1
    refine j_iload_n (pc := 2) hC d_M_fits_2 rfl ?_
    refine j_bipush (pc := 3) hC d_M_fits_3 (by decide) ?_
    refine j_icmp_gt (pc := 5) (tgt := 50) hC d_M_fits_5 (by decide) (fun w5 => ?_) (fun w5 => ?_)
    · refine j_aload_n (pc := 50) hC d_M_fits_50 rfl ?_
      refine jm_gf_can (pc := 51) hC hG d_M_fits_51 ?_
      refine j_iconst (pc := 54) hC d_M_fits_54 ?_
      refine j_iconst (pc := 55) hC d_M_fits_55 ?_
      refine jm_st_can (pc := 56) hC hG d_M_fits_56 ?_
      refine j_iconst (pc := 57) hC d_M_fits_57 ?_
      refine j_istore_1 (pc := 58) hC d_M_fits_58 (by decide) ?_
      exact lp_M_fits3 hoS hC hG hp 50 0 _ (by omega) (by omega) (by omega) (dp_0 hoS (by rw [show (41 : Int) = t by omega]; exact hI))
    · refine j_iconst (pc := 8) hC d_M_fits_8 ?_
      refine j_istore_2 (pc := 9) hC d_M_fits_9 (by decide) ?_
      refine lp_M_fits2 hoS hC hG h1 (by omega) (fun V hV => ?_) 200 0 U (by omega) (by omega) (by omega) hI
      refine j_iinc_1 (pc := 44) hC d_M_fits_44 (by decide) ?_
      refine j_goto (pc := 47) (tgt := 2) hC d_M_fits_47 (by decide) ?_
      exact ih (t + 1) V (by omega) (by omega) (by omega) hV
theorem c_M_fits (S : St) (ho : okM S) : Ct MW okM y_M_fits b_M_fits 3 (some .boolean) 2 [] S (fun z u => fitQ S z u) := by
  refine Ct.of (by decide) (Nat.le_of_ble_eq_true rfl) ho (fun X hW hk hC => ?_)
  have hG : GM X := ⟨hW, hk⟩
  replace hC : CX X R_M b_M_fits 3 (some .boolean) 2 := hC
  show J X 3 (some .boolean) _ S 0 [some (.ref (gA X 0)), none, none] []
  refine j_iconst (pc := 0) hC d_M_fits_0 ?_
  refine j_istore_1 (pc := 1) hC d_M_fits_1 (by decide) ?_
  exact lp_M_fits1 ho hC hG (fun z u h => h) 50 0 S (by omega) (by omega) (by omega) ⟨fun _ _ _ => rfl, fun t s a1 a2 a3 a4 => by omega⟩
end FitsM
end
section
-- QUESTIONS: whether a set of jobs has a plan, by job numbers
def FQ (S : St) (P : Int → Prop) (F D : Int → Int) : Prop := ∃ s, Plan P (S 0 0) F D (okS S) s
def updI (F : Int → Int) (e v : Int) : Int → Int := fun i => if i = e then v else F i
theorem plan_congr {P P' : Int → Prop} {p p' : Int} {F F' D D' s : Int → Int} {ok ok' : Int → Prop} (hP : ∀ i, P' i → P i) (hF : ∀ i, P' i → F' i = F i ∧ D' i = D i) (hp : p' = p) (hok : ∀ t, ok t → ok' t) (h : Plan P p F D ok s) : Plan P' p' F' D' ok' s := by
  subst hp
  refine ⟨fun i hi => ?_, fun i j hi hj hij => h.2 i j (hP i hi) (hP j hj) hij⟩
  obtain ⟨a, b, c⟩ := h.1 i (hP i hi)
  obtain ⟨e1, e2⟩ := hF i hi
  exact ⟨by omega, by omega, hok _ c⟩
theorem FQ_mono {S : St} {P P' : Int → Prop} {F F' D D' : Int → Int} (hP : ∀ i, P' i → P i) (hF : ∀ i, P' i → F' i ≤ F i ∧ D i ≤ D' i) (h : FQ S P F D) : FQ S P' F' D' := by
  obtain ⟨s, h⟩ := h
  refine ⟨s, fun i hi => ?_, fun i j hi hj hij => h.2 i j (hP i hi) (hP j hj) hij⟩
  obtain ⟨a, b, c⟩ := h.1 i (hP i hi)
  obtain ⟨e1, e2⟩ := hF i hi
  exact ⟨by omega, by omega, c⟩
theorem FQ_iff {S : St} {P P' : Int → Prop} {F F' D D' : Int → Int} (hP : ∀ i, P i ↔ P' i) (hF : ∀ i, P i → F i = F' i ∧ D i = D' i) : FQ S P F D ↔ FQ S P' F' D' := by
  constructor
  · exact FQ_mono (fun i h => (hP i).mpr h) (fun i h => by have := hF i ((hP i).mpr h); omega)
  · exact FQ_mono (fun i h => (hP i).mp h) (fun i h => by have := hF i h; omega)
/-- the same blocks and length: the same questions -/
def SameQ (S U : St) : Prop := U 0 0 = S 0 0 ∧ ∀ t, okS U t ↔ okS S t
theorem SameQ.of {S U : St} (h0 : U 0 0 = S 0 0) (h : ∀ k, 0 ≤ k → k < 4 → U 4 k = S 4 k ∧ (S 4 k = 1 → U 5 k = S 5 k ∧ U 6 k = S 6 k)) : SameQ S U := by
  refine ⟨h0, fun t => ?_⟩
  unfold okS
  rw [h0]
  constructor
  · rintro ⟨a, b, c⟩
    refine ⟨a, b, fun k k0 k1 k2 => ?_⟩
    obtain ⟨e1, e2⟩ := h k k0 k1
    obtain ⟨e3, e4⟩ := e2 k2
    have := c k k0 k1 (by omega)
    rw [e3, e4] at this
    exact this
  · rintro ⟨a, b, c⟩
    refine ⟨a, b, fun k k0 k1 k2 => ?_⟩
    obtain ⟨e1, e2⟩ := h k k0 k1
    obtain ⟨e3, e4⟩ := e2 (by omega)
    have := c k k0 k1 (by omega)
    rw [e3, e4]
    exact this
theorem SameQ.FQ {S U : St} (h : SameQ S U) {P : Int → Prop} {F D : Int → Int} : FQ U P F D ↔ FQ S P F D := by
  constructor
  · rintro ⟨s, hs⟩
    exact ⟨s, plan_congr (fun _ q => q) (fun _ _ => ⟨rfl, rfl⟩) h.1.symm (fun t => (h.2 t).mp) hs⟩
  · rintro ⟨s, hs⟩
    exact ⟨s, plan_congr (fun _ q => q) (fun _ _ => ⟨rfl, rfl⟩) h.1 (fun t => (h.2 t).mpr) hs⟩
theorem SameQ.trans {S U V : St} (h : SameQ S U) (h' : SameQ U V) : SameQ S V := ⟨h'.1.trans h.1, fun t => (h'.2 t).trans (h.2 t)⟩
/-- only the planner's scratch differs -/
def Sc (S u : St) : Prop := ∀ b j, b ≠ 7 → b ≠ 8 → b ≠ 9 → b ≠ 10 → ¬ (b = 0 ∧ j = 2) → ¬ (b = 0 ∧ j = 3) → u b j = S b j
theorem Sc.rf (S : St) : Sc S S := fun _ _ _ _ _ _ _ _ => rfl
theorem Sc.trans {S U V : St} (h : Sc S U) (h' : Sc U V) : Sc S V := fun b j a1 a2 a3 a4 a5 a6 => (h' b j a1 a2 a3 a4 a5 a6).trans (h b j a1 a2 a3 a4 a5 a6)
theorem Sc.f {S u : St} (h : Sc S u) (j : Int) (a : j ≠ 2 := by decide) (b : j ≠ 3 := by decide) : u 0 j = S 0 j := h 0 j (by decide) (by decide) (by decide) (by decide) (fun q => a q.2) (fun q => b q.2)
theorem Sc.a {S u : St} (h : Sc S u) (b : Nat) (j : Int) (h0 : b ≠ 0 := by decide) (h7 : b ≠ 7 := by decide) (h8 : b ≠ 8 := by decide) (h9 : b ≠ 9 := by decide) (h10 : b ≠ 10 := by decide) : u b j = S b j := h b j h7 h8 h9 h10 (fun q => h0 q.1) (fun q => h0 q.1)
theorem Sc.same {S u : St} (h : Sc S u) : SameQ S u := SameQ.of (h.f 0) (fun k _ _ => ⟨h.a 4 k, fun _ => ⟨h.a 5 k, h.a 6 k⟩⟩)
theorem askI.sc {S U : St} {id pins k : Int} (h : askI S U id pins k) : Sc S U := fun b j a1 a2 _ _ a5 _ => h.1 b j a1 a2 a5
theorem askS.sc (S : St) (r d : Int) : Sc S (askS S r d) := fun _ _ a1 a2 _ _ a5 _ => askS_n S r d a1 a2 a5
theorem raiseI.sc {S U : St} {t k : Int} (h : raiseI S U t k) : Sc S U := fun b j a1 _ _ _ _ _ => h.1 b j a1
theorem feasQ.sc {S U : St} {z : Int} (h : feasQ S z U) : Sc S U := fun b j _ _ a3 a4 _ a6 => h.1 b j a3 a4 a6
/-- U asks about the jobs P with the windows F, D -/
def Asked (U : St) (P : Int → Prop) (F D : Int → Int) : Prop := 0 ≤ U 0 2 ∧ ∃ σ : Int → Int, (∀ a, ixn (U 0 2) a → P (σ a) ∧ U 7 a = F (σ a) ∧ U 8 a = D (σ a)) ∧ (∀ a b, ixn (U 0 2) a → ixn (U 0 2) b → a ≠ b → σ a ≠ σ b) ∧ ∀ i, P i → ∃ a, ixn (U 0 2) a ∧ σ a = i
theorem Asked.plans {U : St} {P : Int → Prop} {F D : Int → Int} (h : Asked U P F D) (e : Int) : (∃ s, PlanP U s ∧ ∀ i, ixn (U 0 2) i → s i + U 0 0 ≤ e) ↔ FQ U P F (fun i => min (D i) e) := by
  obtain ⟨-, σ, h1, h2, h3⟩ := h
  constructor
  · rintro ⟨s, ⟨p1, p2⟩, p3⟩
    obtain ⟨τ, hτ⟩ : ∃ τ : Int → Int, ∀ i, P i → ixn (U 0 2) (τ i) ∧ σ (τ i) = i := ⟨fun i => Classical.epsilon (fun a => ixn (U 0 2) a ∧ σ a = i), fun i hi => Classical.epsilon_spec (h3 i hi)⟩
    refine ⟨fun i => s (τ i), fun i hi => ?_, fun i j hi hj hij => ?_⟩
    · have hc := hτ i hi
      obtain ⟨a1, a2, a3⟩ := p1 _ hc.1
      obtain ⟨-, b1, b2⟩ := h1 _ hc.1
      rw [hc.2] at b1 b2
      have := p3 _ hc.1
      refine ⟨?_, ?_, a3⟩
      · show F i ≤ s (τ i); omega
      · show s (τ i) + U 0 0 ≤ min (D i) e; omega
    · have hc := hτ i hi
      have hc' := hτ j hj
      exact p2 _ _ hc.1 hc'.1 (fun ee => hij (by rw [← hc.2, ← hc'.2, ee]))
  · rintro ⟨s, p1, p2⟩
    refine ⟨fun a => s (σ a), ⟨fun a ha => ?_, fun a b ha hb hab => p2 _ _ (h1 a ha).1 (h1 b hb).1 (h2 a b ha hb hab)⟩, fun a ha => ?_⟩
    · obtain ⟨b0, b1, b2⟩ := h1 a ha
      obtain ⟨a1, a2, a3⟩ := p1 _ b0
      have a2 : s (σ a) + U 0 0 ≤ min (D (σ a)) e := a2
      refine ⟨?_, ?_, a3⟩
      · show U 7 a ≤ s (σ a); omega
      · show s (σ a) + U 0 0 ≤ U 8 a; omega
    · obtain ⟨b0, b1, b2⟩ := h1 a ha
      obtain ⟨a1, a2, a3⟩ := p1 _ b0
      have a2 : s (σ a) + U 0 0 ≤ min (D (σ a)) e := a2
      show s (σ a) + U 0 0 ≤ e
      omega
theorem PlanP.end40 {U : St} {s : Int → Int} (h : PlanP U s) : ∀ i, ixn (U 0 2) i → s i + U 0 0 ≤ 40 := fun i hi => (h.1 i hi).2.2.2.1
theorem FQ_40 {S : St} {P : Int → Prop} {F D : Int → Int} : FQ S P F (fun i => min (D i) 40) ↔ FQ S P F D := by
  constructor
  · exact FQ_mono (fun _ q => q) (fun i _ => ⟨Int.le_refl _, by show min (D i) 40 ≤ D i; omega⟩)
  · rintro ⟨s, h1, h2⟩
    exact ⟨s, fun i hi => ⟨(h1 i hi).1, by have := (h1 i hi).2.1; have := (h1 i hi).2.2.2.1; show s i + S 0 0 ≤ min (D i) 40; omega, (h1 i hi).2.2⟩, h2⟩
theorem Asked.plan {U : St} {P : Int → Prop} {F D : Int → Int} (h : Asked U P F D) : (∃ s, PlanP U s) ↔ FQ U P F D := by
  rw [← FQ_40, ← h.plans 40]
  exact ⟨fun ⟨s, q⟩ => ⟨s, q, q.end40⟩, fun ⟨s, q, _⟩ => ⟨s, q⟩⟩
theorem Asked.congr {U : St} {P P' : Int → Prop} {F F' D D' : Int → Int} (h : Asked U P F D) (hP : ∀ i, P i ↔ P' i) (hF : ∀ i, P i → F i = F' i ∧ D i = D' i) : Asked U P' F' D' := by
  obtain ⟨h0, σ, h1, h2, h3⟩ := h
  refine ⟨h0, σ, fun a ha => ?_, h2, fun i hi => h3 i ((hP i).mpr hi)⟩
  obtain ⟨b0, b1, b2⟩ := h1 a ha
  obtain ⟨e1, e2⟩ := hF _ b0
  exact ⟨(hP _).mp b0, by omega, by omega⟩
theorem Asked.add {U : St} {P : Int → Prop} {F D : Int → Int} (h : Asked U P F D) {e : Int} (he : ¬ P e) (r d : Int) : Asked (askS U r d) (fun i => P i ∨ i = e) (updI F e r) (updI D e d) := by
  obtain ⟨h0, σ, h1, h2, h3⟩ := h
  unfold Asked
  rw [askS_0]
  refine ⟨by omega, fun a => if a = U 0 2 then e else σ a, fun a ha => ?_, fun a b ha hb hab => ?_, fun i hi => ?_⟩
  · have ha1 := ha.1
    have ha2 := ha.2
    rw [askS_7, askS_8]
    show (P (if a = U 0 2 then e else σ a) ∨ (if a = U 0 2 then e else σ a) = e) ∧ _ = updI F e r (if a = U 0 2 then e else σ a) ∧ _ = updI D e d (if a = U 0 2 then e else σ a)
    by_cases q : a = U 0 2
    · rw [if_pos q, if_pos q, if_pos q]
      exact ⟨Or.inr rfl, (if_pos rfl).symm, (if_pos rfl).symm⟩
    · rw [if_neg q, if_neg q, if_neg q]
      obtain ⟨b0, b1, b2⟩ := h1 a ⟨ha1, by omega⟩
      have hne : ¬ σ a = e := fun z => he (by rw [← z]; exact b0)
      exact ⟨Or.inl b0, by rw [b1]; exact (if_neg hne).symm, by rw [b2]; exact (if_neg hne).symm⟩
  · have ha1 := ha.1
    have ha2 := ha.2
    have hb1 := hb.1
    have hb2 := hb.2
    show (if a = U 0 2 then e else σ a) ≠ (if b = U 0 2 then e else σ b)
    by_cases q : a = U 0 2
    · rw [if_pos q, if_neg (by omega)]
      intro z
      exact he (by rw [z]; exact (h1 b ⟨hb1, by omega⟩).1)
    · rw [if_neg q]
      by_cases q2 : b = U 0 2
      · rw [if_pos q2]
        intro z
        exact he (by rw [← z]; exact (h1 a ⟨ha1, by omega⟩).1)
      · rw [if_neg q2]
        exact h2 a b ⟨ha1, by omega⟩ ⟨hb1, by omega⟩ hab
  · rcases hi with hi | rfl
    · obtain ⟨a, a1, a2⟩ := h3 i hi
      refine ⟨a, ⟨a1.1, by have := a1.2; omega⟩, ?_⟩
      show (if a = U 0 2 then e else σ a) = i
      rw [if_neg (by have := a1.2; omega)]
      exact a2
    · exact ⟨U 0 2, ⟨h0, by omega⟩, if_pos rfl⟩
theorem Asked.raise {U V : St} {P : Int → Prop} {F D : Int → Int} {t : Int} (h : Asked U P F D) (hr : raiseI U V t (U 0 2)) : Asked V P (fun i => max (F i) t) D := by
  obtain ⟨h0, σ, h1, h2, h3⟩ := h
  have e2 := hr.1 0 2 (by decide)
  unfold Asked
  rw [e2]
  refine ⟨h0, σ, fun a ha => ?_, h2, h3⟩
  obtain ⟨b0, b1, b2⟩ := h1 a ha
  rw [hr.2 a, if_pos (show 0 ≤ a ∧ a < U 0 2 from ha), hr.1 8 a (by decide), b1]
  exact ⟨b0, rfl, b2⟩
/-- the jobs that are there -/
def BS (S : St) : Int → Prop := fun i => 0 ≤ i ∧ i < S 0 1 ∧ S 1 i = 1
theorem Sc.BS {S U : St} (h : Sc S U) (i : Int) : BS U i ↔ BS S i := by
  show (0 ≤ i ∧ i < U 0 1 ∧ U 1 i = 1) ↔ (0 ≤ i ∧ i < S 0 1 ∧ S 1 i = 1)
  rw [h.f 1, h.a 1 i]
theorem Asked.ask {S U V : St} {id pins : Int} (hs : Sc S U) (h : askI U V id pins (U 0 1)) : Asked V (fun i => BS S i ∧ i ≠ id) (pinR S pins) (pinD S pins) := by
  obtain ⟨h1, h2, h3, σ, h4, h5, h6⟩ := h
  refine ⟨h2, σ, fun a ha => ?_, fun a b ha hb hab => ?_, fun i hi => ?_⟩
  · obtain ⟨b1, b2, b3, b4, b5, b6⟩ := h4 a ha.1 ha.2
    refine ⟨⟨(hs.BS _).mp ⟨b1, b2, b3⟩, b4⟩, ?_, ?_⟩
    · rw [b5]; unfold pinR; rw [hs.a 11, hs.a 2]
    · rw [b6]; unfold pinD; rw [hs.a 11, hs.a 3, hs.f 0]
  · rcases (show a < b ∨ b < a by omega) with q | q
    · exact h5 a b ha.1 q hb.2
    · exact fun z => h5 b a hb.1 q ha.2 z.symm
  · obtain ⟨b1, b2, b3⟩ := (hs.BS i).mpr hi.1
    obtain ⟨a, a1, a2, a3⟩ := h6 i b1 b2 b3 hi.2
    exact ⟨a, ⟨a1, a2⟩, a3⟩
theorem Asked.ok {U : St} {P : Int → Prop} {F D : Int → Int} (h : Asked U P F D) (hn : U 0 2 ≤ 7) (hw : ∀ i, P i → 0 ≤ F i ∧ F i ≤ 40 ∧ 0 ≤ D i ∧ D i ≤ 40) : AskOk U := by
  obtain ⟨h0, σ, h1, h2, h3⟩ := h
  refine ⟨hn, fun a a1 a2 => ?_⟩
  obtain ⟨b0, b1, b2⟩ := h1 a ⟨a1, a2⟩
  rw [b1, b2]
  exact hw _ b0
/-- what feasible() says, by job numbers -/
theorem feasQ.q {S U V : St} {z : Int} {P : Int → Prop} {F D : Int → Int} (h : feasQ U z V) (ha : Asked U P F D) (hs : SameQ S U) : (z = 1 ∧ FQ S P F D) ∨ (z = 0 ∧ ¬ FQ S P F D) := by
  rcases h.2 with ⟨h1, -, ⟨s, h2, -⟩, -⟩ | ⟨h1, h2⟩
  · exact Or.inl ⟨h1, hs.FQ.mp (ha.plan.mp ⟨s, h2⟩)⟩
  · refine Or.inr ⟨h1, fun q => ?_⟩
    obtain ⟨s, q⟩ := ha.plan.mpr (hs.FQ.mpr q)
    exact h2 s q
theorem feasQ.e {S U V : St} {z : Int} {P : Int → Prop} {F D : Int → Int} (h : feasQ U z V) (ha : Asked U P F D) (hs : SameQ S U) (hq : FQ S P F D) : 0 ≤ V 0 3 ∧ FQ S P F (fun i => min (D i) (V 0 3)) ∧ ∀ d, 0 ≤ d → FQ S P F (fun i => min (D i) d) → V 0 3 ≤ d := by
  rcases h.2 with ⟨-, h1, h2, h3⟩ | ⟨-, h2⟩
  · refine ⟨h1, hs.FQ.mp ((ha.plans _).mp h2), fun d d0 hd => ?_⟩
    obtain ⟨s, q1, q2⟩ := (ha.plans d).mpr (hs.FQ.mpr hd)
    exact h3 s d q1 d0 q2
  · obtain ⟨s, q⟩ := ha.plan.mpr (hs.FQ.mpr hq)
    exact absurd q (h2 s)
end
section
-- THE PLANNER'S PUBLIC METHODS (all but the plan)
def WfS (S : St) : Prop := ∀ i, BS S i → 0 ≤ S 2 i ∧ S 2 i + S 0 0 ≤ S 3 i ∧ S 3 i ≤ 40
/-- the jobs that are there, and job e with the window r, d -/
def FX (S : St) (e r d : Int) : Prop := FQ S (fun i => BS S i ∨ i = e) (updI (S 2) e r) (updI (S 3) e d)
def FB (S : St) : Prop := FQ S (BS S) (S 2) (S 3)
def FR (S : St) (b : Int) : Prop := FQ S (BS S) (fun i => max (S 2 i) b) (S 3)
def FP (S : St) (pins id m : Int) : Prop := FQ S (BS S) (updI (pinR S pins) id (S 2 id)) (updI (pinD S pins) id (m + S 0 0))
theorem updI_eq (F : Int → Int) (e v : Int) : updI F e v e = v := if_pos rfl
theorem updI_ne {F : Int → Int} {e v i : Int} (h : ¬ i = e) : updI F e v i = F i := if_neg h
theorem pinR_0 {S : St} {i : Int} (h : 0 ≤ i) : pinR S 0 i = S 2 i := if_neg (by omega)
theorem pinD_0 {S : St} {i : Int} (h : 0 ≤ i) : pinD S 0 i = S 3 i := if_neg (by omega)
theorem fx_res {S U V : St} {id e r d : Int} (hoU : okP U) (hw : WfS S) (hoS : okP S) (hs : Sc S U) (hask : askI U V id 0 (U 0 1)) (he : ¬ (BS S e ∧ e ≠ id)) (hid : id = e ∨ id < 0) (r0 : 0 ≤ r) (r1 : r ≤ 40) (d0 : 0 ≤ d) (d1 : d ≤ 40) :
    AskOk (askS V r d) ∧ ∀ z W, feasQ (askS V r d) z W → Sc S W ∧ ((z = 1 ∧ FX S e r d) ∨ (z = 0 ∧ ¬ FX S e r d)) := by
  have h1 : Asked (askS V r d) (fun i => BS S i ∨ i = e) (updI (S 2) e r) (updI (S 3) e d) := by
    refine (Asked.add (Asked.ask hs hask) he r d).congr (fun i => ?_) (fun i hi => ?_)
    · constructor
      · rintro (q | q)
        · exact Or.inl q.1
        · exact Or.inr q
      · rintro (q | q)
        · by_cases q2 : i = e
          · exact Or.inr q2
          · exact Or.inl ⟨q, by have := q.1; omega⟩
        · exact Or.inr q
    · by_cases q : i = e
      · rw [q, updI_eq, updI_eq, updI_eq, updI_eq]; exact ⟨rfl, rfl⟩
      · rcases hi with hi | hi
        · rw [updI_ne q, updI_ne q, updI_ne q, updI_ne q, pinR_0 hi.1.1, pinD_0 hi.1.1]; exact ⟨rfl, rfl⟩
        · exact absurd hi q
  have h2 : Sc S (askS V r d) := (hs.trans hask.sc).trans (askS.sc V r d)
  have hc := hoU.2.1
  have h3 := hask.2.2.1
  have hp0 := hoS.1
  refine ⟨h1.ok (by rw [askS_0]; omega) (fun i hi => ?_), fun z W hz => ⟨h2.trans hz.sc, hz.q h1 h2.same⟩⟩
  by_cases q : i = e
  · rw [q, updI_eq, updI_eq]; omega
  · rcases hi with hi | hi
    · rw [updI_ne q, updI_ne q]
      have := hw i hi
      omega
    · exact absurd hi q
theorem fb_res {S U V : St} (hoU : okP U) (hw : WfS S) (hoS : okP S) (hs : Sc S U) (hask : askI U V (-1) 0 (U 0 1)) :
    Asked V (BS S) (S 2) (S 3) ∧ AskOk V ∧ ∀ z W, feasQ V z W → Sc S W ∧ ((z = 1 ∧ FB S) ∨ (z = 0 ∧ ¬ FB S)) := by
  have h1 : Asked V (BS S) (S 2) (S 3) := by
    refine (Asked.ask hs hask).congr (fun i => ⟨fun q => q.1, fun q => ⟨q, by have := q.1; omega⟩⟩) (fun i hi => ?_)
    rw [pinR_0 hi.1.1, pinD_0 hi.1.1]
    exact ⟨rfl, rfl⟩
  have h2 : Sc S V := hs.trans hask.sc
  have hc := hoU.2.1
  have h3 := hask.2.2.1
  have hp0 := hoS.1
  refine ⟨h1, h1.ok (by omega) (fun i hi => ?_), fun z W hz => ⟨h2.trans hz.sc, hz.q h1 h2.same⟩⟩
  have := hw i hi
  omega
theorem fr_res {S U V V' : St} {b : Int} (hoU : okP U) (hw : WfS S) (hoS : okP S) (hs : Sc S U) (hask : askI U V (-1) 0 (U 0 1)) (hr : raiseI V V' b (V 0 2)) (b0 : 0 ≤ b) (b1 : b ≤ 40) :
    AskOk V' ∧ ∀ z W, feasQ V' z W → Sc S W ∧ ((z = 1 ∧ FR S b) ∨ (z = 0 ∧ ¬ FR S b)) := by
  have h1 := (fb_res hoU hw hoS hs hask).1.raise hr
  have h2 : Sc S V' := (hs.trans hask.sc).trans hr.sc
  have hc := hoU.2.1
  have h3 := hask.2.2.1
  have e2 := hr.1 0 2 (by decide)
  have hp0 := hoS.1
  refine ⟨h1.ok (by omega) (fun i hi => ?_), fun z W hz => ⟨h2.trans hz.sc, hz.q h1 h2.same⟩⟩
  have := hw i hi
  show 0 ≤ max (S 2 i) b ∧ max (S 2 i) b ≤ 40 ∧ _
  omega
theorem fp_res {S U V : St} {pins id m : Int} (hoU : okP U) (hw : WfS S) (hoS : okP S) (hs : Sc S U) (hask : askI U V id pins (U 0 1)) (hid : BS S id) (hpl : ∀ i, BS S i → i < pins → 0 ≤ S 11 i ∧ S 11 i + S 0 0 ≤ 40) (m0 : 0 ≤ m) (m1 : m + S 0 0 ≤ 40) :
    AskOk (askS V (S 2 id) (m + S 0 0)) ∧ ∀ z W, feasQ (askS V (S 2 id) (m + S 0 0)) z W → Sc S W ∧ ((z = 1 ∧ FP S pins id m) ∨ (z = 0 ∧ ¬ FP S pins id m)) := by
  have h1 : Asked (askS V (S 2 id) (m + S 0 0)) (BS S) (updI (pinR S pins) id (S 2 id)) (updI (pinD S pins) id (m + S 0 0)) := by
    refine (Asked.add (e := id) (Asked.ask hs hask) (fun q => q.2 rfl) _ _).congr (fun i => ?_) (fun i hi => ⟨rfl, rfl⟩)
    constructor
    · rintro (q | q)
      · exact q.1
      · rw [q]; exact hid
    · intro q
      by_cases q2 : i = id
      · exact Or.inr q2
      · exact Or.inl ⟨q, q2⟩
  have h2 : Sc S (askS V (S 2 id) (m + S 0 0)) := (hs.trans hask.sc).trans (askS.sc _ _ _)
  have hc := hoU.2.1
  have h3 := hask.2.2.1
  have hp0 := hoS.1
  refine ⟨h1.ok (by rw [askS_0]; omega) (fun i hi => ?_), fun z W hz => ⟨h2.trans hz.sc, hz.q h1 h2.same⟩⟩
  have hwi := hw i hi
  by_cases q : i = id
  · rw [q, updI_eq, updI_eq]
    have := hw id hid
    omega
  · rw [updI_ne q, updI_ne q]
    unfold pinR pinD
    split
    · rename_i q2
      have := hpl i hi q2
      omega
    · omega
def probeQ (S : St) (r d z : Int) : Prop := (¬ winOk S r d ∧ z = -1) ∨ (winOk S r d ∧ ((freeNo S (-1) ∧ z = -2) ∨ ∃ f, 0 ≤ f ∧ freeNo S f ∧ ((z = f ∧ FX S f r d) ∨ (z = -3 ∧ ¬ FX S f r d))))
theorem freeNo.m1 {S : St} {z : Int} (h : freeNo S z) (q : z < 0) : freeNo S (-1) := by
  rcases h with ⟨e, h⟩ | h
  · exact Or.inl ⟨rfl, h⟩
  · omega
theorem freeNo.nb {S : St} {z : Int} (h : freeNo S z) (q : 0 ≤ z) : ¬ BS S z ∧ z < S 0 1 := by
  rcases h with ⟨e, h⟩ | h
  · omega
  · exact ⟨fun b => by have := b.2.2; omega, h.2.1⟩
section TopP
variable {X : Cx} {S : St} {post : Int → St → Prop}
theorem c_P_probe (S : St) (ho : okP S) (hw : WfS S) (r d : Int) (r1 : -2147483648 ≤ r) (r2 : r ≤ 2147483647) (d1 : -2147483648 ≤ d) (d2 : d ≤ 2147483647) : Ct PW okP y_P_probe b_P_probe 4 (some .int) 4 [r, d] S (fun z u => Sc S u ∧ probeQ S r d z) := by
  refine Ct.of (by decide) (Nat.le_of_ble_eq_true rfl) ho (fun X hW hk hC => ?_)
  have hG : GP X := ⟨hW, hk⟩
  replace hC : CX X R_P b_P_probe 4 (some .int) 4 := hC
  show J X 4 (some .int) _ S 0 [some (.ref (gA X 0)), some (vI r), some (vI d), none] []
  have hb0 := ho.1
  have hb1 := ho.2.1
  refine j_aload_n (pc := 0) hC d_P_probe_0 rfl ?_
  refine j_iload_n (pc := 1) hC d_P_probe_1 rfl ?_
  refine j_iload_n (pc := 2) hC d_P_probe_2 rfl ?_
  refine jp_calli2 (pc := 3) hC hG (cw_P_59 (by decide)) rfl d_P_probe_3 (c_P_windowOk S ho r d r1 r2 d1 d2) (fun zw S3 p3 o3 => ?_)
  refine J.eqs p3.1 ?_
  replace p3 := p3.2
  have hzw : zw = 0 ∨ zw = 1 := by rcases p3 with q | q; (right; exact q.1); (left; exact q.1)
  refine j_if_ne (pc := 6) (tgt := 11) hC d_P_probe_6 (by decide) (fun w6 => ?_) (fun w6 => ?_)
  · refine j_aload_n (pc := 11) hC d_P_probe_11 rfl ?_
    refine jp_calli0 (pc := 12) hC hG (cw_P_63 (by decide)) rfl d_P_probe_12 (c_P_freeNumber S ho) (fun f S12 p12 o12 => ?_)
    refine J.eqs p12.1 ?_
    replace p12 := p12.2
    have hf : -1 ≤ f ∧ f ≤ 6 := by rcases p12 with q | q <;> omega
    refine j_istore_3 (pc := 15) hC d_P_probe_15 (by decide) ?_
    refine j_iload_n (pc := 16) hC d_P_probe_16 rfl ?_
    refine j_if_ge (pc := 17) (tgt := 23) hC d_P_probe_17 (by decide) (fun w17 => ?_) (fun w17 => ?_)
    · refine j_aload_n (pc := 23) hC d_P_probe_23 rfl ?_
      refine jp_callv0 (pc := 24) hC hG (cw_P_67 (by decide)) rfl d_P_probe_24 (c_P_askAll S ho) (fun U p24 o24 => ?_)
      have hwin : winOk S r d := by
        rcases p3 with q | q
        · exact q.2
        · omega
      obtain ⟨q1, q2, q3, q4, q5⟩ := _root_.id hwin
      have hnb := p12.nb (by omega)
      have hfx := fx_res ho hw ho (Sc.rf S) p24 (e := f) (fun q => hnb.1 q.1) (Or.inr (by omega)) q1 q3 q4 q2
      have hn := p24.2.2.1
      refine j_aload_n (pc := 27) hC d_P_probe_27 rfl ?_
      refine j_iload_n (pc := 28) hC d_P_probe_28 rfl ?_
      refine j_iload_n (pc := 29) hC d_P_probe_29 rfl ?_
      refine jp_callv2 (pc := 30) hC hG (cw_P_70 (by decide)) rfl d_P_probe_30 (c_P_ask U o24 r d (by omega) (by omega) (by omega) (by omega) (by omega)) (fun S30 p30 o30 => ?_)
      refine J.eqs p30 ?_
      rw [p30] at o30
      refine j_aload_n (pc := 33) hC d_P_probe_33 rfl ?_
      refine jp_calli0 (pc := 34) hC hG (cw_P_74 (by decide)) rfl d_P_probe_34 (c_P_feasible _ o30 hfx.1) (fun z S34 p34 o34 => ?_)
      have hz := hfx.2 _ _ p34
      have hz01 : z = 0 ∨ z = 1 := by rcases hz.2 with q | q; (right; exact q.1); (left; exact q.1)
      refine j_if_eq (pc := 37) (tgt := 44) hC d_P_probe_37 (by decide) (fun w37 => ?_) (fun w37 => ?_)
      · refine j_bipush (pc := 44) hC d_P_probe_44 (by decide) ?_
        exact j_iret (pc := 46) hC d_P_probe_46 (⟨hz.1, Or.inr ⟨hwin, Or.inr ⟨f, by omega, p12, Or.inr ⟨rfl, by rcases hz.2 with q | q; (omega); (exact q.2)⟩⟩⟩⟩)
      · refine j_iload_n (pc := 40) hC d_P_probe_40 rfl ?_
        refine j_goto (pc := 41) (tgt := 46) hC d_P_probe_41 (by decide) ?_
        exact j_iret (pc := 46) hC d_P_probe_46 (⟨hz.1, Or.inr ⟨hwin, Or.inr ⟨f, by omega, p12, Or.inl ⟨rfl, by rcases hz.2 with q | q; (exact q.2); (omega)⟩⟩⟩⟩)
    · refine j_bipush (pc := 20) hC d_P_probe_20 (by decide) ?_
      exact j_iret (pc := 22) hC d_P_probe_22 (⟨Sc.rf S, Or.inr ⟨by rcases p3 with q | q; (exact q.2); (omega), Or.inl ⟨p12.m1 (by omega), rfl⟩⟩⟩)
  · refine j_iconst (pc := 9) hC d_P_probe_9 ?_
    exact j_iret (pc := 10) hC d_P_probe_10 (⟨Sc.rf S, Or.inl ⟨by rcases p3 with q | q; (omega); (exact q.2), rfl⟩⟩)
def offerS (V : St) (z r d : Int) : St := s2 (s2 (s2 (s2 V 1 z 1) 2 z r) 3 z d) 0 4 0
theorem probeQ.win {S : St} {r d z : Int} (h : probeQ S r d z) (q : 0 ≤ z) : winOk S r d ∧ z < S 0 1 := by
  rcases h with h | ⟨h, h2 | ⟨f, f0, f1, h2⟩⟩
  · omega
  · omega
  · refine ⟨h, ?_⟩
    rcases h2 with h2 | h2
    · have := f1.nb f0; omega
    · omega
theorem probeQ.bd {S : St} {r d z : Int} (h : probeQ S r d z) : -3 ≤ z := by
  rcases h with h | ⟨h, h2 | ⟨f, f0, f1, h2 | h2⟩⟩ <;> omega
theorem c_P_offer (S : St) (ho : okP S) (hw : WfS S) (r d : Int) (r1 : -2147483648 ≤ r) (r2 : r ≤ 2147483647) (d1 : -2147483648 ≤ d) (d2 : d ≤ 2147483647) : Ct PW okP y_P_offer b_P_offer 4 (some .int) 5 [r, d] S (fun z u => probeQ S r d z ∧ ((z < 0 ∧ Sc S u) ∨ (0 ≤ z ∧ ∃ V, Sc S V ∧ u = offerS V z r d))) := by
  refine Ct.of (by decide) (Nat.le_of_ble_eq_true rfl) ho (fun X hW hk hC => ?_)
  have hG : GP X := ⟨hW, hk⟩
  replace hC : CX X R_P b_P_offer 4 (some .int) 5 := hC
  show J X 4 (some .int) _ S 0 [some (.ref (gA X 0)), some (vI r), some (vI d), none] []
  have hb1 := ho.2.1
  refine j_aload_n (pc := 0) hC d_P_offer_0 rfl ?_
  refine j_iload_n (pc := 1) hC d_P_offer_1 rfl ?_
  refine j_iload_n (pc := 2) hC d_P_offer_2 rfl ?_
  refine jp_calli2 (pc := 3) hC hG (cw_P_51 (by decide)) rfl d_P_offer_3 (c_P_probe S ho hw r d r1 r2 d1 d2) (fun z V p3 o3 => ?_)
  have hzb := p3.2.bd
  have hzc : 0 ≤ z → z < S 0 1 ∧ winOk S r d := fun q => ⟨(p3.2.win q).2, (p3.2.win q).1⟩
  have hz6 : z ≤ 6 := by rcases (show z < 0 ∨ 0 ≤ z by omega) with q | q; (omega); (have := hzc q; omega)
  refine j_istore_3 (pc := 6) hC d_P_offer_6 (by decide) ?_
  refine j_iload_n (pc := 7) hC d_P_offer_7 rfl ?_
  refine j_if_lt (pc := 8) (tgt := 39) hC d_P_offer_8 (by decide) (fun w8 => ?_) (fun w8 => ?_)
  · refine j_iload_n (pc := 39) hC d_P_offer_39 rfl ?_
    exact j_iret (pc := 40) hC d_P_offer_40 (⟨p3.2, Or.inl ⟨by omega, p3.1⟩⟩)
  · obtain ⟨hz1, q1, q2, q3, q4, q5⟩ := hzc (by omega)
    refine j_aload_n (pc := 11) hC d_P_offer_11 rfl ?_
    refine jp_gf_used (pc := 12) hC hG d_P_offer_12 ?_
    refine j_iload_n (pc := 15) hC d_P_offer_15 rfl ?_
    refine j_iconst (pc := 16) hC d_P_offer_16 ?_
    refine jp_st_used (pc := 17) hC hG d_P_offer_17 ?_
    refine j_aload_n (pc := 18) hC d_P_offer_18 rfl ?_
    refine jp_gf_from (pc := 19) hC hG d_P_offer_19 ?_
    refine j_iload_n (pc := 22) hC d_P_offer_22 rfl ?_
    refine j_iload_n (pc := 23) hC d_P_offer_23 rfl ?_
    refine j_i2b (pc := 24) hC d_P_offer_24 (k := ?_)
    refine jp_st_from (pc := 25) hC hG d_P_offer_25 ?_
    refine j_aload_n (pc := 26) hC d_P_offer_26 rfl ?_
    refine jp_gf_until (pc := 27) hC hG d_P_offer_27 ?_
    refine j_iload_n (pc := 30) hC d_P_offer_30 rfl ?_
    refine j_iload_n (pc := 31) hC d_P_offer_31 rfl ?_
    refine j_i2b (pc := 32) hC d_P_offer_32 (k := ?_)
    refine jp_st_until (pc := 33) hC hG d_P_offer_33 ?_
    refine j_aload_n (pc := 34) hC d_P_offer_34 rfl ?_
    refine j_iconst (pc := 35) hC d_P_offer_35 ?_
    refine jp_pf_planKnown (pc := 36) hC hG d_P_offer_36 ?_
    refine j_iload_n (pc := 39) hC d_P_offer_39 rfl ?_
    exact j_iret (pc := 40) hC d_P_offer_40 (⟨p3.2, Or.inr ⟨by omega, V, p3.1, rfl⟩⟩)
def moveQ (S : St) (id r d z : Int) (u : St) : Prop := (¬ holdsId S id ∧ z = -2 ∧ u = S) ∨ (holdsId S id ∧ ((¬ winOk S r d ∧ z = -1 ∧ u = S) ∨ (winOk S r d ∧ ((z = -3 ∧ ¬ FX S id r d ∧ Sc S u) ∨ (z = id ∧ FX S id r d ∧ ∃ V, Sc S V ∧ u = s2 (s2 (s2 V 2 id r) 3 id d) 0 4 0)))))
theorem c_P_move (S : St) (ho : okP S) (hw : WfS S) (id r d : Int) (i1 : -2147483648 ≤ id) (i2 : id ≤ 2147483647) (r1 : -2147483648 ≤ r) (r2 : r ≤ 2147483647) (d1 : -2147483648 ≤ d) (d2 : d ≤ 2147483647) : Ct PW okP y_P_move b_P_move 4 (some .int) 4 [id, r, d] S (fun z u => moveQ S id r d z u) := by
  refine Ct.of (by decide) (Nat.le_of_ble_eq_true rfl) ho (fun X hW hk hC => ?_)
  have hG : GP X := ⟨hW, hk⟩
  replace hC : CX X R_P b_P_move 4 (some .int) 4 := hC
  show J X 4 (some .int) _ S 0 [some (.ref (gA X 0)), some (vI id), some (vI r), some (vI d)] []
  have hb0 := ho.1
  have hb1 := ho.2.1
  refine j_aload_n (pc := 0) hC d_P_move_0 rfl ?_
  refine j_iload_n (pc := 1) hC d_P_move_1 rfl ?_
  refine jp_calli1 (pc := 2) hC hG (cw_P_78 (by decide)) rfl d_P_move_2 (c_P_holds S ho id i1 i2) (fun zh S2 p2 o2 => ?_)
  refine J.eqs p2.1 ?_
  replace p2 := p2.2
  have hzh : zh = 0 ∨ zh = 1 := by rcases p2 with q | q; (right; exact q.1); (left; exact q.1)
  refine j_if_ne (pc := 5) (tgt := 11) hC d_P_move_5 (by decide) (fun w5 => ?_) (fun w5 => ?_)
  · refine j_aload_n (pc := 11) hC d_P_move_11 rfl ?_
    refine j_iload_n (pc := 12) hC d_P_move_12 rfl ?_
    refine j_iload_n (pc := 13) hC d_P_move_13 rfl ?_
    refine jp_calli2 (pc := 14) hC hG (cw_P_59 (by decide)) rfl d_P_move_14 (c_P_windowOk S ho r d r1 r2 d1 d2) (fun zw S3 p3 o3 => ?_)
    refine J.eqs p3.1 ?_
    replace p3 := p3.2
    have hzw : zw = 0 ∨ zw = 1 := by rcases p3 with q | q; (right; exact q.1); (left; exact q.1)
    have hh : holdsId S id := by
      rcases p2 with q | q
      · exact q.2
      · omega
    obtain ⟨g1, g2, g3⟩ := _root_.id hh
    refine j_if_ne (pc := 17) (tgt := 22) hC d_P_move_17 (by decide) (fun w17 => ?_) (fun w17 => ?_)
    · refine j_aload_n (pc := 22) hC d_P_move_22 rfl ?_
      refine j_iload_n (pc := 23) hC d_P_move_23 rfl ?_
      refine jp_callv1 (pc := 24) hC hG (cw_P_82 (by decide)) rfl d_P_move_24 (c_P_askAllBut S ho id (by omega) (by omega)) (fun U p24 o24 => ?_)
      have hwin : winOk S r d := by
        rcases p3 with q | q
        · exact q.2
        · omega
      obtain ⟨q1, q2, q3, q4, q5⟩ := _root_.id hwin
      have hfx := fx_res ho hw ho (Sc.rf S) p24 (e := id) (fun q => q.2 rfl) (Or.inl rfl) q1 q3 q4 q2
      have hn := p24.2.2.1
      refine j_aload_n (pc := 27) hC d_P_move_27 rfl ?_
      refine j_iload_n (pc := 28) hC d_P_move_28 rfl ?_
      refine j_iload_n (pc := 29) hC d_P_move_29 rfl ?_
      refine jp_callv2 (pc := 30) hC hG (cw_P_70 (by decide)) rfl d_P_move_30 (c_P_ask U o24 r d (by omega) (by omega) (by omega) (by omega) (by omega)) (fun S30 p30 o30 => ?_)
      refine J.eqs p30 ?_
      rw [p30] at o30
      refine j_aload_n (pc := 33) hC d_P_move_33 rfl ?_
      refine jp_calli0 (pc := 34) hC hG (cw_P_74 (by decide)) rfl d_P_move_34 (c_P_feasible _ o30 hfx.1) (fun z V p34 o34 => ?_)
      have hz := hfx.2 _ _ p34
      have hz01 : z = 0 ∨ z = 1 := by rcases hz.2 with q | q; (right; exact q.1); (left; exact q.1)
      refine j_if_ne (pc := 37) (tgt := 43) hC d_P_move_37 (by decide) (fun w37 => ?_) (fun w37 => ?_)
      · refine j_aload_n (pc := 43) hC d_P_move_43 rfl ?_
        refine jp_gf_from (pc := 44) hC hG d_P_move_44 ?_
        refine j_iload_n (pc := 47) hC d_P_move_47 rfl ?_
        refine j_iload_n (pc := 48) hC d_P_move_48 rfl ?_
        refine j_i2b (pc := 49) hC d_P_move_49 (k := ?_)
        refine jp_st_from (pc := 50) hC hG d_P_move_50 ?_
        refine j_aload_n (pc := 51) hC d_P_move_51 rfl ?_
        refine jp_gf_until (pc := 52) hC hG d_P_move_52 ?_
        refine j_iload_n (pc := 55) hC d_P_move_55 rfl ?_
        refine j_iload_n (pc := 56) hC d_P_move_56 rfl ?_
        refine j_i2b (pc := 57) hC d_P_move_57 (k := ?_)
        refine jp_st_until (pc := 58) hC hG d_P_move_58 ?_
        refine j_aload_n (pc := 59) hC d_P_move_59 rfl ?_
        refine j_iconst (pc := 60) hC d_P_move_60 ?_
        refine jp_pf_planKnown (pc := 61) hC hG d_P_move_61 ?_
        refine j_iload_n (pc := 64) hC d_P_move_64 rfl ?_
        exact j_iret (pc := 65) hC d_P_move_65 (Or.inr ⟨hh, Or.inr ⟨hwin, Or.inr ⟨rfl, by rcases hz.2 with q | q; (exact q.2); (omega), V, hz.1, rfl⟩⟩⟩)
      · refine j_bipush (pc := 40) hC d_P_move_40 (by decide) ?_
        exact j_iret (pc := 42) hC d_P_move_42 (Or.inr ⟨hh, Or.inr ⟨hwin, Or.inl ⟨rfl, by rcases hz.2 with q | q; (omega); (exact q.2), hz.1⟩⟩⟩)
    · refine j_iconst (pc := 20) hC d_P_move_20 ?_
      exact j_iret (pc := 21) hC d_P_move_21 (Or.inr ⟨hh, Or.inl ⟨by rcases p3 with q | q; (omega); (exact q.2), rfl, rfl⟩⟩)
  · refine j_bipush (pc := 8) hC d_P_move_8 (by decide) ?_
    exact j_iret (pc := 10) hC d_P_move_10 (Or.inl ⟨by rcases p2 with q | q; (omega); (exact q.2), rfl, rfl⟩)
theorem c_P_withdraw (S : St) (ho : okP S) (id : Int) (i1 : -2147483648 ≤ id) (i2 : id ≤ 2147483647) : Ct PW okP y_P_withdraw b_P_withdraw 2 (some .boolean) 1 [id] S (fun z u => (holdsId S id ∧ z = 1 ∧ u = s2 (s2 S 1 id 0) 0 4 0) ∨ (¬ holdsId S id ∧ z = 0 ∧ u = S)) := by
  refine Ct.of (by decide) (Nat.le_of_ble_eq_true rfl) ho (fun X hW hk hC => ?_)
  have hG : GP X := ⟨hW, hk⟩
  replace hC : CX X R_P b_P_withdraw 2 (some .boolean) 1 := hC
  show J X 2 (some .boolean) _ S 0 [some (.ref (gA X 0)), some (vI id)] []
  have hb1 := ho.2.1
  refine j_aload_n (pc := 0) hC d_P_withdraw_0 rfl ?_
  refine j_iload_n (pc := 1) hC d_P_withdraw_1 rfl ?_
  refine jp_calli1 (pc := 2) hC hG (cw_P_78 (by decide)) rfl d_P_withdraw_2 (c_P_holds S ho id i1 i2) (fun z S2 p o2 => ?_)
  refine J.eqs p.1 ?_
  replace p := p.2
  unfold holdsId at p
  refine j_if_ne (pc := 5) (tgt := 10) hC d_P_withdraw_5 (by decide) (fun w5 => ?_) (fun w5 => ?_)
  · refine j_aload_n (pc := 10) hC d_P_withdraw_10 rfl ?_
    refine jp_gf_used (pc := 11) hC hG d_P_withdraw_11 ?_
    refine j_iload_n (pc := 14) hC d_P_withdraw_14 rfl ?_
    refine j_iconst (pc := 15) hC d_P_withdraw_15 ?_
    refine jp_st_used (pc := 16) hC hG d_P_withdraw_16 ?_
    refine j_aload_n (pc := 17) hC d_P_withdraw_17 rfl ?_
    refine j_iconst (pc := 18) hC d_P_withdraw_18 ?_
    refine jp_pf_planKnown (pc := 19) hC hG d_P_withdraw_19 ?_
    refine j_iconst (pc := 22) hC d_P_withdraw_22 ?_
    exact j_zret (pc := 23) hC d_P_withdraw_23 (Or.inl ⟨by unfold holdsId; omega, rfl, rfl⟩)
  · refine j_iconst (pc := 8) hC d_P_withdraw_8 ?_
    exact j_zret (pc := 9) hC d_P_withdraw_9 (Or.inr ⟨by unfold holdsId; omega, rfl, rfl⟩)
theorem c_P_unblock (S : St) (ho : okP S) (k : Int) (i1 : -2147483648 ≤ k) (i2 : k ≤ 2147483647) : Ct PW okP y_P_unblock b_P_unblock 2 (some .boolean) 0 [k] S (fun z u => (0 ≤ k ∧ k < 4 ∧ S 4 k = 1 ∧ z = 1 ∧ u = s2 (s2 S 4 k 0) 0 4 0) ∨ (¬ (0 ≤ k ∧ k < 4 ∧ S 4 k = 1) ∧ z = 0 ∧ u = S)) := by
  refine Ct.of (by decide) (Nat.le_of_ble_eq_true rfl) ho (fun X hW hk hC => ?_)
  have hG : GP X := ⟨hW, hk⟩
  replace hC : CX X R_P b_P_unblock 2 (some .boolean) 0 := hC
  show J X 2 (some .boolean) _ S 0 [some (.ref (gA X 0)), some (vI k)] []
  refine j_iload_n (pc := 0) hC d_P_unblock_0 rfl ?_
  refine j_if_lt (pc := 1) (tgt := 18) hC d_P_unblock_1 (by decide) (fun w1 => ?_) (fun w1 => ?_)
  · refine j_iconst (pc := 18) hC d_P_unblock_18 ?_
    exact j_zret (pc := 19) hC d_P_unblock_19 (Or.inr ⟨by omega, rfl, rfl⟩)
  · refine j_iload_n (pc := 4) hC d_P_unblock_4 rfl ?_
    refine j_iconst (pc := 5) hC d_P_unblock_5 ?_
    refine j_icmp_ge (pc := 6) (tgt := 18) hC d_P_unblock_6 (by decide) (fun w6 => ?_) (fun w6 => ?_)
    · refine j_iconst (pc := 18) hC d_P_unblock_18 ?_
      exact j_zret (pc := 19) hC d_P_unblock_19 (Or.inr ⟨by omega, rfl, rfl⟩)
    · refine j_aload_n (pc := 9) hC d_P_unblock_9 rfl ?_
      refine jp_gf_blockUsed (pc := 10) hC hG d_P_unblock_10 ?_
      refine j_iload_n (pc := 13) hC d_P_unblock_13 rfl ?_
      refine jp_ld_blockUsed (pc := 14) hC hG d_P_unblock_14 (fun l14 u14 => ?_)
      refine j_if_ne (pc := 15) (tgt := 20) hC d_P_unblock_15 (by decide) (fun w15 => ?_) (fun w15 => ?_)
      · refine j_aload_n (pc := 20) hC d_P_unblock_20 rfl ?_
        refine jp_gf_blockUsed (pc := 21) hC hG d_P_unblock_21 ?_
        refine j_iload_n (pc := 24) hC d_P_unblock_24 rfl ?_
        refine j_iconst (pc := 25) hC d_P_unblock_25 ?_
        refine jp_st_blockUsed (pc := 26) hC hG d_P_unblock_26 ?_
        refine j_aload_n (pc := 27) hC d_P_unblock_27 rfl ?_
        refine j_iconst (pc := 28) hC d_P_unblock_28 ?_
        refine jp_pf_planKnown (pc := 29) hC hG d_P_unblock_29 ?_
        refine j_iconst (pc := 32) hC d_P_unblock_32 ?_
        exact j_zret (pc := 33) hC d_P_unblock_33 (Or.inl ⟨by omega, by omega, by omega, rfl, rfl⟩)
      · refine j_iconst (pc := 18) hC d_P_unblock_18 ?_
        exact j_zret (pc := 19) hC d_P_unblock_19 (Or.inr ⟨by omega, rfl, rfl⟩)
/-- block(a, b) -/
def blkOk (a b : Int) : Prop := 0 ≤ a ∧ a < b ∧ b ≤ 40
def blkFree (S : St) (k : Int) : Prop := 0 ≤ k ∧ k ≤ 4 ∧ (k < 4 → S 4 k = 0) ∧ ∀ i, 0 ≤ i → i < k → S 4 i = 1
def blkS (S : St) (k a b : Int) : St := s2 (s2 (s2 S 4 k 1) 5 k a) 6 k b
def blockQ (S : St) (a b z : Int) (u : St) : Prop := (¬ blkOk a b ∧ z = -1 ∧ u = S) ∨ (blkOk a b ∧ ∃ k, blkFree S k ∧ ((k = 4 ∧ z = -2 ∧ u = S) ∨ (k < 4 ∧ ((z = -3 ∧ ¬ FB (blkS S k a b) ∧ ∃ V, Sc (blkS S k a b) V ∧ u = s2 V 4 k 0) ∨ (z = k ∧ FB (blkS S k a b) ∧ ∃ V, Sc (blkS S k a b) V ∧ u = s2 V 0 4 0)))))
theorem blkS_n (S : St) (k a b : Int) {c : Nat} {j : Int} (h4 : c ≠ 4) (h5 : c ≠ 5) (h6 : c ≠ 6) : blkS S k a b c j = S c j := by
  unfold blkS
  rw [s2_ne (fun q => h6 q.1), s2_ne (fun q => h5 q.1), s2_ne (fun q => h4 q.1)]
theorem blkS_wf {S : St} {k a b : Int} (h : WfS S) : WfS (blkS S k a b) := by
  intro i hi
  unfold BS at hi
  rw [blkS_n S k a b (by decide) (by decide) (by decide), blkS_n S k a b (by decide) (by decide) (by decide)] at hi
  rw [blkS_n S k a b (by decide) (by decide) (by decide), blkS_n S k a b (by decide) (by decide) (by decide), blkS_n S k a b (by decide) (by decide) (by decide)]
  exact h i hi
theorem lp_P_block {a b : Int} (ho : okP S) (hw : WfS S) (hC : CX X R_P b_P_block 4 (some .int) 4) (hG : GP X) (hab : blkOk a b) (hp : ∀ z u, blockQ S a b z u → post z u) : ∀ (n : Nat) (k : Int), 0 ≤ k → k ≤ 4 → 4 - k < n → (∀ i, 0 ≤ i → i < k → S 4 i = 1) → J X 4 (some .int) post S 19 [some (.ref (gA X 0)), some (vI a), some (vI b), some (vI k)] [] := by
  intro n
  induction n with
  | zero => intro k h1 h2 h3; omega
  | succ n ih =>
    intro k h1 h2 h3 hI
    obtain ⟨a0, a1, a2⟩ := _root_.id hab
    refine j_iload_n (pc := 19) hC d_P_block_19 rfl ?_
    refine j_iconst (pc := 20) hC d_P_block_20 ?_
    refine j_icmp_ge (pc := 21) (tgt := 39) hC d_P_block_21 (by decide) (fun w21 => ?_) (fun w21 => ?_)
    · refine j_iload_n (pc := 39) hC d_P_block_39 rfl ?_
      refine j_iconst (pc := 40) hC d_P_block_40 ?_
      refine j_icmp_lt (pc := 41) (tgt := 47) hC d_P_block_41 (by decide) (fun w41 => ?_) (fun w41 => ?_)
      · exact False.elim (by omega)
      · refine j_bipush (pc := 44) hC d_P_block_44 (by decide) ?_
        exact j_iret (pc := 46) hC d_P_block_46 (hp _ _ (Or.inr ⟨hab, k, ⟨h1, h2, fun _ => by omega, hI⟩, Or.inl ⟨by omega, rfl, rfl⟩⟩))
    · refine j_aload_n (pc := 24) hC d_P_block_24 rfl ?_
      refine jp_gf_blockUsed (pc := 25) hC hG d_P_block_25 ?_
      refine j_iload_n (pc := 28) hC d_P_block_28 rfl ?_
      refine jp_ld_blockUsed (pc := 29) hC hG d_P_block_29 (fun l29 u29 => ?_)
      refine j_if_eq (pc := 30) (tgt := 39) hC d_P_block_30 (by decide) (fun w30 => ?_) (fun w30 => ?_)
      · refine j_iload_n (pc := 39) hC d_P_block_39 rfl ?_
        refine j_iconst (pc := 40) hC d_P_block_40 ?_
        refine j_icmp_lt (pc := 41) (tgt := 47) hC d_P_block_41 (by decide) (fun w41 => ?_) (fun w41 => ?_)
        · refine j_aload_n (pc := 47) hC d_P_block_47 rfl ?_
          refine jp_gf_blockUsed (pc := 48) hC hG d_P_block_48 ?_
          refine j_iload_n (pc := 51) hC d_P_block_51 rfl ?_
          refine j_iconst (pc := 52) hC d_P_block_52 ?_
          refine jp_st_blockUsed (pc := 53) hC hG d_P_block_53 ?_
          refine j_aload_n (pc := 54) hC d_P_block_54 rfl ?_
          refine jp_gf_blockFrom (pc := 55) hC hG d_P_block_55 ?_
          refine j_iload_n (pc := 58) hC d_P_block_58 rfl ?_
          refine j_iload_n (pc := 59) hC d_P_block_59 rfl ?_
          refine j_i2b (pc := 60) hC d_P_block_60 (k := ?_)
          refine jp_st_blockFrom (pc := 61) hC hG d_P_block_61 ?_
          refine j_aload_n (pc := 62) hC d_P_block_62 rfl ?_
          refine jp_gf_blockUntil (pc := 63) hC hG d_P_block_63 ?_
          refine j_iload_n (pc := 66) hC d_P_block_66 rfl ?_
          refine j_iload_n (pc := 67) hC d_P_block_67 rfl ?_
          refine j_i2b (pc := 68) hC d_P_block_68 (k := ?_)
          refine jp_st_blockUntil (pc := 69) hC hG d_P_block_69 ?_
          have hoB : okP (blkS S k a b) := okP_blockUntil (okP_blockFrom (okP_blockUsed ho (by omega) (by omega)) (by omega) (by omega)) (by omega) (by omega)
          refine J.eqs (show _ = blkS S k a b from rfl) ?_
          have hbf : blkFree S k := ⟨h1, h2, fun _ => by omega, hI⟩
          refine j_aload_n (pc := 70) hC d_P_block_70 rfl ?_
          refine jp_callv0 (pc := 71) hC hG (cw_P_67 (by decide)) rfl d_P_block_71 (c_P_askAll (blkS S k a b) hoB) (fun U p71 o71 => ?_)
          have hfb := fb_res hoB (blkS_wf hw) hoB (Sc.rf _) p71
          refine j_aload_n (pc := 74) hC d_P_block_74 rfl ?_
          refine jp_calli0 (pc := 75) hC hG (cw_P_74 (by decide)) rfl d_P_block_75 (c_P_feasible U o71 hfb.2.1) (fun z V p75 o75 => ?_)
          have hz := hfb.2.2 _ _ p75
          have hz01 : z = 0 ∨ z = 1 := by rcases hz.2 with q | q; (right; exact q.1); (left; exact q.1)
          refine j_if_ne (pc := 78) (tgt := 91) hC d_P_block_78 (by decide) (fun w78 => ?_) (fun w78 => ?_)
          · refine j_aload_n (pc := 91) hC d_P_block_91 rfl ?_
            refine j_iconst (pc := 92) hC d_P_block_92 ?_
            refine jp_pf_planKnown (pc := 93) hC hG d_P_block_93 ?_
            refine j_iload_n (pc := 96) hC d_P_block_96 rfl ?_
            exact j_iret (pc := 97) hC d_P_block_97 (hp _ _ (Or.inr ⟨hab, k, hbf, Or.inr ⟨by omega, Or.inr ⟨rfl, by rcases hz.2 with q | q; (exact q.2); (omega), V, hz.1, rfl⟩⟩⟩))
          · refine j_aload_n (pc := 81) hC d_P_block_81 rfl ?_
            refine jp_gf_blockUsed (pc := 82) hC hG d_P_block_82 ?_
            refine j_iload_n (pc := 85) hC d_P_block_85 rfl ?_
            refine j_iconst (pc := 86) hC d_P_block_86 ?_
            refine jp_st_blockUsed (pc := 87) hC hG d_P_block_87 ?_
            refine j_bipush (pc := 88) hC d_P_block_88 (by decide) ?_
            exact j_iret (pc := 90) hC d_P_block_90 (hp _ _ (Or.inr ⟨hab, k, hbf, Or.inr ⟨by omega, Or.inl ⟨rfl, by rcases hz.2 with q | q; (omega); (exact q.2), V, hz.1, rfl⟩⟩⟩))
        · exact False.elim (by omega)
      · refine j_iinc_3 (pc := 33) hC d_P_block_33 (by decide) ?_
        refine j_goto (pc := 36) (tgt := 19) hC d_P_block_36 (by decide) ?_
        exact ih (k + 1) (by omega) (by omega) (by omega) (fun i q1 q2 => by rcases (show i < k ∨ i = k by omega) with q | rfl; (exact hI i q1 q); omega)
theorem c_P_block (S : St) (ho : okP S) (hw : WfS S) (a b : Int) (a1 : -2147483648 ≤ a) (a2 : a ≤ 2147483647) (b1 : -2147483648 ≤ b) (b2 : b ≤ 2147483647) : Ct PW okP y_P_block b_P_block 4 (some .int) 4 [a, b] S (fun z u => blockQ S a b z u) := by
  refine Ct.of (by decide) (Nat.le_of_ble_eq_true rfl) ho (fun X hW hk hC => ?_)
  have hG : GP X := ⟨hW, hk⟩
  replace hC : CX X R_P b_P_block 4 (some .int) 4 := hC
  show J X 4 (some .int) _ S 0 [some (.ref (gA X 0)), some (vI a), some (vI b), none] []
  refine j_iload_n (pc := 0) hC d_P_block_0 rfl ?_
  refine j_if_lt (pc := 1) (tgt := 15) hC d_P_block_1 (by decide) (fun w1 => ?_) (fun w1 => ?_)
  · refine j_iconst (pc := 15) hC d_P_block_15 ?_
    exact j_iret (pc := 16) hC d_P_block_16 (Or.inl ⟨fun h => by unfold blkOk at h; omega, rfl, rfl⟩)
  · refine j_iload_n (pc := 4) hC d_P_block_4 rfl ?_
    refine j_bipush (pc := 5) hC d_P_block_5 (by decide) ?_
    refine j_icmp_gt (pc := 7) (tgt := 15) hC d_P_block_7 (by decide) (fun w7 => ?_) (fun w7 => ?_)
    · refine j_iconst (pc := 15) hC d_P_block_15 ?_
      exact j_iret (pc := 16) hC d_P_block_16 (Or.inl ⟨fun h => by unfold blkOk at h; omega, rfl, rfl⟩)
    · refine j_iload_n (pc := 10) hC d_P_block_10 rfl ?_
      refine j_iload_n (pc := 11) hC d_P_block_11 rfl ?_
      refine j_icmp_lt (pc := 12) (tgt := 17) hC d_P_block_12 (by decide) (fun w12 => ?_) (fun w12 => ?_)
      · refine j_iconst (pc := 17) hC d_P_block_17 ?_
        refine j_istore_3 (pc := 18) hC d_P_block_18 (by decide) ?_
        exact lp_P_block ho hw hC hG ⟨by omega, by omega, by omega⟩ (fun z u h => h) 10 0 (by omega) (by omega) (by omega) (fun i _ _ => by omega)
      · refine j_iconst (pc := 15) hC d_P_block_15 ?_
        exact j_iret (pc := 16) hC d_P_block_16 (Or.inl ⟨fun h => by unfold blkOk at h; omega, rfl, rfl⟩)
/-- earliestEnd() -/
theorem c_P_earliestEnd (S : St) (ho : okP S) (hw : WfS S) (hf : FB S) : Ct PW okP y_P_earliestEnd b_P_earliestEnd 1 (some .int) 4 [] S (fun z u => Sc S u ∧ 0 ≤ z ∧ FQ S (BS S) (S 2) (fun i => min (S 3 i) z) ∧ ∀ d, 0 ≤ d → FQ S (BS S) (S 2) (fun i => min (S 3 i) d) → z ≤ d) := by
  refine Ct.of (by decide) (Nat.le_of_ble_eq_true rfl) ho (fun X hW hk hC => ?_)
  have hG : GP X := ⟨hW, hk⟩
  replace hC : CX X R_P b_P_earliestEnd 1 (some .int) 4 := hC
  show J X 1 (some .int) _ S 0 [some (.ref (gA X 0))] []
  refine j_aload_n (pc := 0) hC d_P_earliestEnd_0 rfl ?_
  refine jp_callv0 (pc := 1) hC hG (cw_P_67 (by decide)) rfl d_P_earliestEnd_1 (c_P_askAll S ho) (fun U p1 o1 => ?_)
  have hfb := fb_res ho hw ho (Sc.rf S) p1
  refine j_aload_n (pc := 4) hC d_P_earliestEnd_4 rfl ?_
  refine jp_calli0 (pc := 5) hC hG (cw_P_74 (by decide)) rfl d_P_earliestEnd_5 (c_P_feasible U o1 hfb.2.1) (fun z V p5 o5 => ?_)
  have hz := hfb.2.2 _ _ p5
  have he := p5.e hfb.1 ((Sc.rf S).trans p1.sc).same hf
  refine j_pop (pc := 8) hC d_P_earliestEnd_8 ?_
  refine j_aload_n (pc := 9) hC d_P_earliestEnd_9 rfl ?_
  refine jp_gf_lastEnd (pc := 10) hC hG d_P_earliestEnd_10 (fun l10 u10 => ?_)
  exact j_iret (pc := 13) hC d_P_earliestEnd_13 (⟨hz.1, he⟩)
/-- open(t) -/
theorem c_P_open (S : St) (ho : okP S) (hw : WfS S) (t : Int) (t1 : -2147483648 ≤ t) (t2 : t ≤ 2147483647) : Ct PW okP y_P_open b_P_open 2 (some .boolean) 4 [t] S (fun z u => Sc S u ∧ ((z = 1 ∧ 0 ≤ t ∧ t + S 0 0 ≤ 40 ∧ FX S 6 t (t + S 0 0)) ∨ (z = 0 ∧ ¬ (0 ≤ t ∧ t + S 0 0 ≤ 40 ∧ FX S 6 t (t + S 0 0))))) := by
  refine Ct.of (by decide) (Nat.le_of_ble_eq_true rfl) ho (fun X hW hk hC => ?_)
  have hG : GP X := ⟨hW, hk⟩
  replace hC : CX X R_P b_P_open 2 (some .boolean) 4 := hC
  show J X 2 (some .boolean) _ S 0 [some (.ref (gA X 0)), some (vI t)] []
  have hb0 := ho.1
  have hb1 := ho.2.1
  refine j_iload_n (pc := 0) hC d_P_open_0 rfl ?_
  refine j_if_lt (pc := 1) (tgt := 15) hC d_P_open_1 (by decide) (fun w1 => ?_) (fun w1 => ?_)
  · refine j_iconst (pc := 15) hC d_P_open_15 ?_
    exact j_zret (pc := 16) hC d_P_open_16 (⟨Sc.rf S, Or.inr ⟨rfl, by omega⟩⟩)
  · refine j_iload_n (pc := 4) hC d_P_open_4 rfl ?_
    refine j_bipush (pc := 5) hC d_P_open_5 (by decide) ?_
    refine j_aload_n (pc := 7) hC d_P_open_7 rfl ?_
    refine jp_gf_length (pc := 8) hC hG d_P_open_8 (fun l8 u8 => ?_)
    refine j_isub (pc := 11) hC d_P_open_11 ?_
    refine j_icmp_le (pc := 12) (tgt := 17) hC d_P_open_12 (by decide) (fun w12 => ?_) (fun w12 => ?_)
    · refine j_aload_n (pc := 17) hC d_P_open_17 rfl ?_
      refine jp_callv0 (pc := 18) hC hG (cw_P_67 (by decide)) rfl d_P_open_18 (c_P_askAll S ho) (fun U p18 o18 => ?_)
      have e00 := p18.sc.f 0
      have hfx := fx_res (r := t) (d := t + S 0 0) ho hw ho (Sc.rf S) p18 (e := 6) (fun q => by have := q.1.2.1; omega) (Or.inr (by omega)) (by omega) (by omega) (by omega) (by omega)
      have hn := p18.2.2.1
      refine j_aload_n (pc := 21) hC d_P_open_21 rfl ?_
      refine j_iload_n (pc := 22) hC d_P_open_22 rfl ?_
      refine j_iload_n (pc := 23) hC d_P_open_23 rfl ?_
      refine j_aload_n (pc := 24) hC d_P_open_24 rfl ?_
      refine jp_gf_length (pc := 25) hC hG d_P_open_25 (fun l25 u25 => ?_)
      refine j_iadd (pc := 28) hC d_P_open_28 ?_
      refine jp_callv2 (pc := 29) hC hG (cw_P_70 (by decide)) rfl d_P_open_29 (c_P_ask U o18 t (t + U 0 0) (by omega) (by omega) (by omega) (by omega) (by omega)) (fun S29 p29 o29 => ?_)
      refine J.eqs p29 ?_
      rw [e00] at p29
      rw [p29] at o29
      rw [e00]
      refine j_aload_n (pc := 32) hC d_P_open_32 rfl ?_
      refine jp_calli0 (pc := 33) hC hG (cw_P_74 (by decide)) rfl d_P_open_33 (c_P_feasible _ o29 hfx.1) (fun z V p33 o33 => ?_)
      have hz := hfx.2 _ _ p33
      have hz01 : z = 0 ∨ z = 1 := by rcases hz.2 with q | q; (right; exact q.1); (left; exact q.1)
      exact j_zret (pc := 36) hC d_P_open_36 (⟨hz.1, by rcases hz.2 with ⟨q1, q2⟩ | ⟨q1, q2⟩; (exact Or.inl ⟨q1, by omega, by omega, q2⟩); (exact Or.inr ⟨q1, fun q => q2 q.2.2⟩)⟩)
    · refine j_iconst (pc := 15) hC d_P_open_15 ?_
      exact j_zret (pc := 16) hC d_P_open_16 (⟨Sc.rf S, Or.inr ⟨rfl, by omega⟩⟩)
end TopP
end
section
-- THE PLANNER: searching for starts; the plan
/-- the width that is left after k rounds of halving -/
def bsI (k w : Int) : Prop := (k = 0 ∧ w ≤ 40) ∨ (k = 1 ∧ w ≤ 20) ∨ (k = 2 ∧ w ≤ 10) ∨ (k = 3 ∧ w ≤ 5) ∨ (k = 4 ∧ w ≤ 2) ∨ (k = 5 ∧ w ≤ 1) ∨ (6 ≤ k ∧ w ≤ 0)
theorem bs_step {k w w' : Int} (h : bsI k w) (hw : 2 * w' ≤ w) (hw1 : 0 ≤ w) : bsI (k + 1) w' := by unfold bsI at h ⊢; omega
theorem bs_end {k w : Int} (h : bsI k w) (hk : 8 ≤ k) : w ≤ 0 := by unfold bsI at h; omega
theorem FR_anti {S : St} {b b' : Int} (h : FR S b) (hb : b' ≤ b) : FR S b' := FQ_mono (fun _ q => q) (fun i _ => ⟨by show max (S 2 i) b' ≤ max (S 2 i) b; omega, Int.le_refl _⟩) h
theorem FP_mono {S : St} {pins id m m' : Int} (h : FP S pins id m) (hm : m ≤ m') : FP S pins id m' := FQ_mono (fun _ q => q) (fun i _ => ⟨Int.le_refl _, by
  by_cases e : i = id
  · rw [e, updI_eq, updI_eq]; omega
  · rw [updI_ne e, updI_ne e]; exact Int.le_refl _⟩) h
theorem FX_anti {S : St} {e d m m' : Int} (h : FX S e m d) (hm : m' ≤ m) : FX S e m' d := FQ_mono (fun _ q => q) (fun i _ => ⟨by
  by_cases q : i = e
  · rw [q, updI_eq, updI_eq]; exact hm
  · rw [updI_ne q, updI_ne q]; exact Int.le_refl _, Int.le_refl _⟩) h
/-- job id pinned to s, jobs below pins to their planned starts -/
def FEp (S : St) (pins id s : Int) : Prop := FQ S (BS S) (updI (pinR S pins) id s) (updI (pinD S pins) id (s + S 0 0))
def earlQ (S : St) (pins id z : Int) : Prop := S 2 id ≤ z ∧ z + S 0 0 ≤ S 3 id ∧ FEp S pins id z ∧ ∀ m, S 2 id ≤ m → m < z → ¬ FEp S pins id m
def lateQ (S : St) (id z : Int) : Prop := S 2 id ≤ z ∧ z + S 0 0 ≤ S 3 id ∧ FEp S 0 id z ∧ ∀ m, z < m → m + S 0 0 ≤ S 3 id → ¬ FEp S 0 id m
theorem FEp_FP {S : St} {pins id s : Int} (h0 : S 2 id ≤ s) (h : FEp S pins id s) : FP S pins id s := FQ_mono (fun _ q => q) (fun i _ => ⟨by
  by_cases q : i = id
  · rw [q, updI_eq, updI_eq]; exact h0
  · rw [updI_ne q, updI_ne q]; exact Int.le_refl _, Int.le_refl _⟩) h
theorem FP_FEp {S : St} {pins id z : Int} (hid : BS S id) (h : FP S pins id z) : ∃ s, S 2 id ≤ s ∧ s ≤ z ∧ FEp S pins id s := by
  obtain ⟨f, h1, h2⟩ := h
  have hi := h1 id hid
  rw [updI_eq, updI_eq] at hi
  refine ⟨f id, hi.1, by omega, f, fun i hb => ?_, h2⟩
  have := h1 i hb
  by_cases q : i = id
  · rw [q, updI_eq, updI_eq]; rw [q] at this; exact ⟨Int.le_refl _, Int.le_refl _, this.2.2⟩
  · rw [updI_ne q, updI_ne q] at this ⊢; exact this
theorem earl_of {S : St} {pins id z : Int} (hid : BS S id) (z0 : S 2 id ≤ z) (z1 : z + S 0 0 ≤ S 3 id) (h1 : FP S pins id z) (h2 : ∀ m, S 2 id ≤ m → m < z → ¬ FP S pins id m) : earlQ S pins id z := by
  obtain ⟨s, s0, s1, s2⟩ := FP_FEp hid h1
  have hs : s = z := by
    refine Classical.byContradiction (fun hc => h2 s s0 (by omega) (FEp_FP s0 s2))
  exact ⟨z0, z1, hs ▸ s2, fun m m0 m1 q => h2 m m0 m1 (FEp_FP m0 q)⟩
theorem FX_FEp {S : St} {id m : Int} (hid : BS S id) (h : FX S id m (S 3 id)) : ∃ s, m ≤ s ∧ s + S 0 0 ≤ S 3 id ∧ FEp S 0 id s := by
  obtain ⟨f, h1, h2⟩ := h
  have hi := h1 id (Or.inr rfl)
  rw [updI_eq, updI_eq] at hi
  refine ⟨f id, hi.1, hi.2.1, f, fun i hb => ?_, fun i j a b => h2 i j (Or.inl a) (Or.inl b)⟩
  have := h1 i (Or.inl hb)
  by_cases q : i = id
  · rw [q, updI_eq, updI_eq]; rw [q] at this; exact ⟨Int.le_refl _, Int.le_refl _, this.2.2⟩
  · rw [updI_ne q, updI_ne q] at this ⊢; rw [pinR_0 hb.1, pinD_0 hb.1]; exact this
theorem FEp_FX {S : St} {id m : Int} (hid : BS S id) (m1 : m + S 0 0 ≤ S 3 id) (h : FEp S 0 id m) : FX S id m (S 3 id) := by
  refine FQ_mono (P := BS S) (fun i q => ?_) (fun i q => ?_) h
  · rcases q with q | q
    · exact q
    · rw [q]; exact hid
  · by_cases e : i = id
    · rw [e, updI_eq, updI_eq, updI_eq, updI_eq]; omega
    · rcases q with q | q
      · rw [updI_ne e, updI_ne e, updI_ne e, updI_ne e, pinR_0 q.1, pinD_0 q.1]; exact ⟨Int.le_refl _, Int.le_refl _⟩
      · exact absurd q e
theorem late_of {S : St} {id z : Int} (hid : BS S id) (z0 : S 2 id ≤ z) (h1 : FX S id z (S 3 id)) (h2 : ∀ m, z < m → m + S 0 0 ≤ S 3 id → ¬ FX S id m (S 3 id)) : lateQ S id z := by
  obtain ⟨s, s0, s1, s2⟩ := FX_FEp hid h1
  have hs : s = z := by
    refine Classical.byContradiction (fun hc => h2 s (by omega) s1 (FEp_FX hid s1 s2))
  exact ⟨z0, by omega, hs ▸ s2, fun m m0 m1 q => h2 m m0 m1 (FEp_FX hid m1 q)⟩
section SearchP
variable {X : Cx} {S : St} {post : Int → St → Prop}
theorem Sc.wf {S U : St} (h : Sc S U) (hw : WfS S) : WfS U := by
  intro i hi
  rw [h.a 2, h.a 3, h.f 0]
  exact hw i ((h.BS i).mp hi)
/-- latestBegin() -/
def lateB (S : St) (z : Int) : Prop := 0 ≤ z ∧ z ≤ 40 ∧ FR S z ∧ ∀ b, z < b → b ≤ 40 → ¬ FR S b
theorem lp_P_latestBegin (hoS : okP S) (hw : WfS S) (hC : CX X R_P b_P_latestBegin 5 (some .int) 4) (hG : GP X) (hp : ∀ z u, Sc S u → lateB S z → post z u) : ∀ (n : Nat) (low high rnd : Int) (U : St), 0 ≤ rnd → rnd ≤ 8 → 8 - rnd < n → bsI rnd (high - low) → 0 ≤ low → low ≤ high → high ≤ 40 → Sc S U → FR S low → (∀ b, high < b → b ≤ 40 → ¬ FR S b) → J X 5 (some .int) post U 7 [some (.ref (gA X 0)), some (vI low), some (vI high), some (vI rnd), none] [] := by
  intro n
  induction n with
  | zero => intro low high rnd U h1 h2 h3; omega
  | succ n ih =>
    intro low high rnd U h1 h2 h3 hb a1 a2 a3 hs hf hno
    refine jp_ok hG (fun ho => ?_)
    refine j_iload_n (pc := 7) hC d_P_latestBegin_7 rfl ?_
    refine j_bipush (pc := 8) hC d_P_latestBegin_8 (by decide) ?_
    refine j_icmp_ge (pc := 10) (tgt := 61) hC d_P_latestBegin_10 (by decide) (fun w10 => ?_) (fun w10 => ?_)
    · refine j_iload_n (pc := 61) hC d_P_latestBegin_61 rfl ?_
      exact j_iret (pc := 62) hC d_P_latestBegin_62 (hp _ _ hs ⟨a1, by omega, hf, fun b q1 q2 => hno b (by have := bs_end hb (by omega); omega) q2⟩)
    · refine j_iload_n (pc := 13) hC d_P_latestBegin_13 rfl ?_
      refine j_iload_n (pc := 14) hC d_P_latestBegin_14 rfl ?_
      refine j_icmp_ge (pc := 15) (tgt := 61) hC d_P_latestBegin_15 (by decide) (fun w15 => ?_) (fun w15 => ?_)
      · refine j_iload_n (pc := 61) hC d_P_latestBegin_61 rfl ?_
        exact j_iret (pc := 62) hC d_P_latestBegin_62 (hp _ _ hs ⟨a1, by omega, hf, fun b q1 q2 => hno b (by omega) q2⟩)
      · refine j_iload_n (pc := 18) hC d_P_latestBegin_18 rfl ?_
        refine j_iload_n (pc := 19) hC d_P_latestBegin_19 rfl ?_
        refine j_iadd (pc := 20) hC d_P_latestBegin_20 ?_
        refine j_iconst (pc := 21) hC d_P_latestBegin_21 ?_
        refine j_iadd (pc := 22) hC d_P_latestBegin_22 ?_
        refine j_iconst (pc := 23) hC d_P_latestBegin_23 ?_
        refine j_shr1 (pc := 24) hC d_P_latestBegin_24 ?_
        refine j_istore_4 (pc := 25) hC d_P_latestBegin_25 (by decide) ?_
        refine j_aload_n (pc := 27) hC d_P_latestBegin_27 rfl ?_
        refine jp_callv0 (pc := 28) hC hG (cw_P_67 (by decide)) rfl d_P_latestBegin_28 (c_P_askAll U ho) (fun V p28 o28 => ?_)
        refine j_aload_n (pc := 31) hC d_P_latestBegin_31 rfl ?_
        refine j_iload (pc := 32) hC d_P_latestBegin_32 rfl ?_
        refine jp_callv1 (pc := 34) hC hG (cw_P_89 (by decide)) rfl d_P_latestBegin_34 (c_P_raise V o28 ((low + high + 1) / 2) (by omega) (by omega)) (fun V2 p34 o34 => ?_)
        have hfr := fr_res ho hw hoS hs p28 p34 (by omega) (by omega)
        refine j_aload_n (pc := 37) hC d_P_latestBegin_37 rfl ?_
        refine jp_calli0 (pc := 38) hC hG (cw_P_74 (by decide)) rfl d_P_latestBegin_38 (c_P_feasible V2 o34 hfr.1) (fun z W p38 o38 => ?_)
        have hz := hfr.2 _ _ p38
        have hz01 : z = 0 ∨ z = 1 := by rcases hz.2 with q | q; (right; exact q.1); (left; exact q.1)
        refine j_if_eq (pc := 41) (tgt := 50) hC d_P_latestBegin_41 (by decide) (fun w41 => ?_) (fun w41 => ?_)
        · refine j_iload (pc := 50) hC d_P_latestBegin_50 rfl ?_
          refine j_iconst (pc := 52) hC d_P_latestBegin_52 ?_
          refine j_isub (pc := 53) hC d_P_latestBegin_53 ?_
          refine j_istore_2 (pc := 54) hC d_P_latestBegin_54 (by decide) ?_
          refine j_iinc_3 (pc := 55) hC d_P_latestBegin_55 (by decide) ?_
          refine j_goto (pc := 58) (tgt := 7) hC d_P_latestBegin_58 (by decide) ?_
          exact j_forget4 1 (ih low ((low + high + 1) / 2 - 1) (rnd + 1) W (by omega) (by omega) (by omega) (bs_step hb (by omega) (by omega)) (by omega) (by omega) (by omega) hz.1 hf (fun b q1 q2 q3 => by rcases hz.2 with q | q; (omega); (exact q.2 (FR_anti q3 (by omega)))))
        · refine j_iload (pc := 44) hC d_P_latestBegin_44 rfl ?_
          refine j_istore_1 (pc := 46) hC d_P_latestBegin_46 (by decide) ?_
          refine j_goto (pc := 47) (tgt := 55) hC d_P_latestBegin_47 (by decide) ?_
          refine j_iinc_3 (pc := 55) hC d_P_latestBegin_55 (by decide) ?_
          refine j_goto (pc := 58) (tgt := 7) hC d_P_latestBegin_58 (by decide) ?_
          exact j_forget4 1 (ih ((low + high + 1) / 2) high (rnd + 1) W (by omega) (by omega) (by omega) (bs_step hb (by omega) (by omega)) (by omega) (by omega) (by omega) hz.1 (by rcases hz.2 with q | q; (exact q.2); (omega)) hno)
theorem c_P_latestBegin (S : St) (ho : okP S) (hw : WfS S) (hf : FB S) : Ct PW okP y_P_latestBegin b_P_latestBegin 5 (some .int) 4 [] S (fun z u => Sc S u ∧ lateB S z) := by
  refine Ct.of (by decide) (Nat.le_of_ble_eq_true rfl) ho (fun X hW hk hC => ?_)
  have hG : GP X := ⟨hW, hk⟩
  replace hC : CX X R_P b_P_latestBegin 5 (some .int) 4 := hC
  show J X 5 (some .int) _ S 0 [some (.ref (gA X 0)), none, none, none, none] []
  have hf0 : FR S 0 := FQ_mono (fun _ q => q) (fun i q => ⟨by show max (S 2 i) 0 ≤ S 2 i; have := (hw i q).1; omega, Int.le_refl _⟩) hf
  refine j_iconst (pc := 0) hC d_P_latestBegin_0 ?_
  refine j_istore_1 (pc := 1) hC d_P_latestBegin_1 (by decide) ?_
  refine j_bipush (pc := 2) hC d_P_latestBegin_2 (by decide) ?_
  refine j_istore_2 (pc := 4) hC d_P_latestBegin_4 (by decide) ?_
  refine j_iconst (pc := 5) hC d_P_latestBegin_5 ?_
  refine j_istore_3 (pc := 6) hC d_P_latestBegin_6 (by decide) ?_
  exact lp_P_latestBegin ho hw hC hG (fun z u h1 h2 => ⟨h1, h2⟩) 10 0 40 0 S (by omega) (by omega) (by omega) (by unfold bsI; omega) (by omega) (by omega) (by omega) (Sc.rf S) hf0 (fun b _ _ => by omega)
/-- earliestOf(id, pins) -/
theorem lp_P_earliestOf {id pins : Int} (hoS : okP S) (hw : WfS S) (hid : BS S id) (hpl : ∀ i, BS S i → i < pins → 0 ≤ S 11 i ∧ S 11 i + S 0 0 ≤ 40) (p0 : 0 ≤ pins) (p1 : pins ≤ 8) (hC : CX X R_P b_P_earliestOf 7 (some .int) 4) (hG : GP X) (hp : ∀ z u, Sc S u → earlQ S pins id z → post z u) : ∀ (n : Nat) (low high rnd : Int) (U : St), 0 ≤ rnd → rnd ≤ 8 → 8 - rnd < n → bsI rnd (high - low) → S 2 id ≤ low → low ≤ high → high + S 0 0 ≤ S 3 id → Sc S U → FP S pins id high → (∀ m, S 2 id ≤ m → m < low → ¬ FP S pins id m) → J X 7 (some .int) post U 23 [some (.ref (gA X 0)), some (vI id), some (vI pins), some (vI low), some (vI high), some (vI rnd), none] [] := by
  intro n
  induction n with
  | zero => intro low high rnd U h1 h2 h3; omega
  | succ n ih =>
    intro low high rnd U h1 h2 h3 hb a1 a2 a3 hs hf hno
    refine jp_ok hG (fun ho => ?_)
    have hwi := hw id hid
    have hb0 := hoS.1
    have hb1 := hoS.2.1
    have hi1 := hid.1
    have hi2 := hid.2.1
    have eU1 := hs.f 1
    refine j_iload (pc := 23) hC d_P_earliestOf_23 rfl ?_
    refine j_bipush (pc := 25) hC d_P_earliestOf_25 (by decide) ?_
    refine j_icmp_ge (pc := 27) (tgt := 92) hC d_P_earliestOf_27 (by decide) (fun w27 => ?_) (fun w27 => ?_)
    · refine j_iload_n (pc := 92) hC d_P_earliestOf_92 rfl ?_
      exact j_iret (pc := 93) hC d_P_earliestOf_93 (hp _ _ hs (earl_of hid a1 (by omega) (by rw [show low = high by (have := bs_end hb (by omega); omega)]; exact hf) hno))
    · refine j_iload_n (pc := 30) hC d_P_earliestOf_30 rfl ?_
      refine j_iload (pc := 31) hC d_P_earliestOf_31 rfl ?_
      refine j_icmp_ge (pc := 33) (tgt := 92) hC d_P_earliestOf_33 (by decide) (fun w33 => ?_) (fun w33 => ?_)
      · refine j_iload_n (pc := 92) hC d_P_earliestOf_92 rfl ?_
        exact j_iret (pc := 93) hC d_P_earliestOf_93 (hp _ _ hs (earl_of hid a1 (by omega) (by rw [show low = high by omega]; exact hf) hno))
      · refine j_iload_n (pc := 36) hC d_P_earliestOf_36 rfl ?_
        refine j_iload (pc := 37) hC d_P_earliestOf_37 rfl ?_
        refine j_iadd (pc := 39) hC d_P_earliestOf_39 ?_
        refine j_iconst (pc := 40) hC d_P_earliestOf_40 ?_
        refine j_shr1 (pc := 41) hC d_P_earliestOf_41 ?_
        refine j_istore_6 (pc := 42) hC d_P_earliestOf_42 (by decide) ?_
        refine j_aload_n (pc := 44) hC d_P_earliestOf_44 rfl ?_
        refine j_iload_n (pc := 45) hC d_P_earliestOf_45 rfl ?_
        refine j_iload_n (pc := 46) hC d_P_earliestOf_46 rfl ?_
        refine jp_callv2 (pc := 47) hC hG (cw_P_98 (by decide)) rfl d_P_earliestOf_47 (c_P_askPinned U ho id pins (by omega) (by omega) (by omega) (by omega) (fun i q1 q2 q3 q4 => by rw [hs.a 11]; have := hpl i ((hs.BS i).mp ⟨q1, q2, q4⟩) q3; omega)) (fun V p47 o47 => ?_)
        have hsV := hs.trans p47.sc
        have e2 := hsV.a 2 id
        have e0 := hsV.f 0
        have hn := p47.2.2.1
        have hfp := fp_res (m := (low + high) / 2) ho hw hoS hs p47 hid hpl (by omega) (by omega)
        refine j_aload_n (pc := 50) hC d_P_earliestOf_50 rfl ?_
        refine j_aload_n (pc := 51) hC d_P_earliestOf_51 rfl ?_
        refine jp_gf_from (pc := 52) hC hG d_P_earliestOf_52 ?_
        refine j_iload_n (pc := 55) hC d_P_earliestOf_55 rfl ?_
        refine jp_ld_from (pc := 56) hC hG d_P_earliestOf_56 (fun l56 u56 => ?_)
        refine j_iload (pc := 57) hC d_P_earliestOf_57 rfl ?_
        refine j_aload_n (pc := 59) hC d_P_earliestOf_59 rfl ?_
        refine jp_gf_length (pc := 60) hC hG d_P_earliestOf_60 (fun l60 u60 => ?_)
        refine j_iadd (pc := 63) hC d_P_earliestOf_63 ?_
        refine jp_callv2 (pc := 64) hC hG (cw_P_70 (by decide)) rfl d_P_earliestOf_64 (c_P_ask V o47 (V 2 id) ((low + high) / 2 + V 0 0) (by omega) (by omega) (by omega) (by omega) (by omega)) (fun S64 p64 o64 => ?_)
        refine J.eqs p64 ?_
        rw [e2, e0] at p64
        rw [p64] at o64
        rw [e2, e0]
        refine j_aload_n (pc := 67) hC d_P_earliestOf_67 rfl ?_
        refine jp_calli0 (pc := 68) hC hG (cw_P_74 (by decide)) rfl d_P_earliestOf_68 (c_P_feasible _ o64 hfp.1) (fun z W p68 o68 => ?_)
        have hz := hfp.2 _ _ p68
        have hz01 : z = 0 ∨ z = 1 := by rcases hz.2 with q | q; (right; exact q.1); (left; exact q.1)
        refine j_if_eq (pc := 71) (tgt := 81) hC d_P_earliestOf_71 (by decide) (fun w71 => ?_) (fun w71 => ?_)
        · refine j_iload (pc := 81) hC d_P_earliestOf_81 rfl ?_
          refine j_iconst (pc := 83) hC d_P_earliestOf_83 ?_
          refine j_iadd (pc := 84) hC d_P_earliestOf_84 ?_
          refine j_istore_3 (pc := 85) hC d_P_earliestOf_85 (by decide) ?_
          refine j_iinc_5 (pc := 86) hC d_P_earliestOf_86 (by decide) ?_
          refine j_goto (pc := 89) (tgt := 23) hC d_P_earliestOf_89 (by decide) ?_
          exact j_forget6 1 (ih ((low + high) / 2 + 1) high (rnd + 1) W (by omega) (by omega) (by omega) (bs_step hb (by omega) (by omega)) (by omega) (by omega) (by omega) hz.1 hf (fun b q1 q2 q3 => by rcases hz.2 with q | q; (omega); (exact q.2 (FP_mono q3 (by omega)))))
        · refine j_iload (pc := 74) hC d_P_earliestOf_74 rfl ?_
          refine j_istore_4 (pc := 76) hC d_P_earliestOf_76 (by decide) ?_
          refine j_goto (pc := 78) (tgt := 86) hC d_P_earliestOf_78 (by decide) ?_
          refine j_iinc_5 (pc := 86) hC d_P_earliestOf_86 (by decide) ?_
          refine j_goto (pc := 89) (tgt := 23) hC d_P_earliestOf_89 (by decide) ?_
          exact j_forget6 1 (ih low ((low + high) / 2) (rnd + 1) W (by omega) (by omega) (by omega) (bs_step hb (by omega) (by omega)) (by omega) (by omega) (by omega) hz.1 (by rcases hz.2 with q | q; (exact q.2); (omega)) hno)
theorem c_P_earliestOf (S : St) (ho : okP S) (hw : WfS S) (id pins : Int) (hid : BS S id) (hpl : ∀ i, BS S i → i < pins → 0 ≤ S 11 i ∧ S 11 i + S 0 0 ≤ 40) (p0 : 0 ≤ pins) (p1 : pins ≤ 8) (hf : FP S pins id (S 3 id - S 0 0)) : Ct PW okP y_P_earliestOf b_P_earliestOf 7 (some .int) 4 [id, pins] S (fun z u => Sc S u ∧ earlQ S pins id z) := by
  refine Ct.of (by decide) (Nat.le_of_ble_eq_true rfl) ho (fun X hW hk hC => ?_)
  have hG : GP X := ⟨hW, hk⟩
  replace hC : CX X R_P b_P_earliestOf 7 (some .int) 4 := hC
  show J X 7 (some .int) _ S 0 [some (.ref (gA X 0)), some (vI id), some (vI pins), none, none, none, none] []
  have hwi := hw id hid
  have hb0 := ho.1
  have hb1 := ho.2.1
  have hi1 := hid.1
  have hi2 := hid.2.1
  refine j_aload_n (pc := 0) hC d_P_earliestOf_0 rfl ?_
  refine jp_gf_from (pc := 1) hC hG d_P_earliestOf_1 ?_
  refine j_iload_n (pc := 4) hC d_P_earliestOf_4 rfl ?_
  refine jp_ld_from (pc := 5) hC hG d_P_earliestOf_5 (fun l5 u5 => ?_)
  refine j_istore_3 (pc := 6) hC d_P_earliestOf_6 (by decide) ?_
  refine j_aload_n (pc := 7) hC d_P_earliestOf_7 rfl ?_
  refine jp_gf_until (pc := 8) hC hG d_P_earliestOf_8 ?_
  refine j_iload_n (pc := 11) hC d_P_earliestOf_11 rfl ?_
  refine jp_ld_until (pc := 12) hC hG d_P_earliestOf_12 (fun l12 u12 => ?_)
  refine j_aload_n (pc := 13) hC d_P_earliestOf_13 rfl ?_
  refine jp_gf_length (pc := 14) hC hG d_P_earliestOf_14 (fun l14 u14 => ?_)
  refine j_isub (pc := 17) hC d_P_earliestOf_17 ?_
  refine j_istore_4 (pc := 18) hC d_P_earliestOf_18 (by decide) ?_
  refine j_iconst (pc := 20) hC d_P_earliestOf_20 ?_
  refine j_istore_5 (pc := 21) hC d_P_earliestOf_21 (by decide) ?_
  exact lp_P_earliestOf ho hw hid hpl p0 p1 hC hG (fun z u h1 h2 => ⟨h1, h2⟩) 10 (S 2 id) (S 3 id - S 0 0) 0 S (by omega) (by omega) (by omega) (by unfold bsI; omega) (by omega) (by omega) (by omega) (Sc.rf S) hf (fun m _ _ => by omega)
theorem FB_FP {S : St} {id : Int} (hf : FB S) : FP S 0 id (S 3 id - S 0 0) := FQ_mono (fun _ q => q) (fun i q => by
  by_cases e : i = id
  · rw [e, updI_eq, updI_eq]; omega
  · rw [updI_ne e, updI_ne e, pinR_0 q.1, pinD_0 q.1]; exact ⟨Int.le_refl _, Int.le_refl _⟩) hf
/-- earliestStart(id) -/
theorem c_P_earliestStart (S : St) (ho : okP S) (hw : WfS S) (hf : FB S) (id : Int) (i1 : -2147483648 ≤ id) (i2 : id ≤ 2147483647) : Ct PW okP y_P_earliestStart b_P_earliestStart 2 (some .int) 5 [id] S (fun z u => (¬ holdsId S id ∧ z = -1 ∧ u = S) ∨ (holdsId S id ∧ Sc S u ∧ earlQ S 0 id z)) := by
  refine Ct.of (by decide) (Nat.le_of_ble_eq_true rfl) ho (fun X hW hk hC => ?_)
  have hG : GP X := ⟨hW, hk⟩
  replace hC : CX X R_P b_P_earliestStart 2 (some .int) 5 := hC
  show J X 2 (some .int) _ S 0 [some (.ref (gA X 0)), some (vI id)] []
  refine j_aload_n (pc := 0) hC d_P_earliestStart_0 rfl ?_
  refine j_iload_n (pc := 1) hC d_P_earliestStart_1 rfl ?_
  refine jp_calli1 (pc := 2) hC hG (cw_P_78 (by decide)) rfl d_P_earliestStart_2 (c_P_holds S ho id i1 i2) (fun zh S2 p2 o2 => ?_)
  refine J.eqs p2.1 ?_
  replace p2 := p2.2
  have hzh : zh = 0 ∨ zh = 1 := by rcases p2 with q | q; (right; exact q.1); (left; exact q.1)
  refine j_if_ne (pc := 5) (tgt := 10) hC d_P_earliestStart_5 (by decide) (fun w5 => ?_) (fun w5 => ?_)
  · have hh : holdsId S id := by rcases p2 with q | q; (exact q.2); (omega)
    refine j_aload_n (pc := 10) hC d_P_earliestStart_10 rfl ?_
    refine j_iload_n (pc := 11) hC d_P_earliestStart_11 rfl ?_
    refine j_iconst (pc := 12) hC d_P_earliestStart_12 ?_
    refine jp_calli2 (pc := 13) hC hG (cw_P_92 (by decide)) rfl d_P_earliestStart_13 (c_P_earliestOf S ho hw id 0 hh (fun i q1 q2 => by have := q1.1; omega) (by omega) (by omega) (FB_FP hf)) (fun z U p13 o13 => ?_)
    exact j_iret (pc := 16) hC d_P_earliestStart_16 (Or.inr ⟨hh, p13⟩)
  · refine j_iconst (pc := 8) hC d_P_earliestStart_8 ?_
    exact j_iret (pc := 9) hC d_P_earliestStart_9 (Or.inl ⟨by rcases p2 with q | q; (omega); (exact q.2), rfl, rfl⟩)
/-- latestStart(id) -/
theorem lp_P_latestStart {id : Int} (hoS : okP S) (hw : WfS S) (hid : BS S id) (hC : CX X R_P b_P_latestStart 6 (some .int) 4) (hG : GP X) (hp : ∀ z u, Sc S u → lateQ S id z → post z u) : ∀ (n : Nat) (low high rnd : Int) (U : St), 0 ≤ rnd → rnd ≤ 8 → 8 - rnd < n → bsI rnd (high - low) → S 2 id ≤ low → low ≤ high → high + S 0 0 ≤ S 3 id → Sc S U → FX S id low (S 3 id) → (∀ m, high < m → m + S 0 0 ≤ S 3 id → ¬ FX S id m (S 3 id)) → J X 6 (some .int) post U 32 [some (.ref (gA X 0)), some (vI id), some (vI low), some (vI high), some (vI rnd), none] [] := by
  intro n
  induction n with
  | zero => intro low high rnd U h1 h2 h3; omega
  | succ n ih =>
    intro low high rnd U h1 h2 h3 hb a1 a2 a3 hs hf hno
    refine jp_ok hG (fun ho => ?_)
    have hwi := hw id hid
    have hb0 := hoS.1
    have hb1 := hoS.2.1
    have hi1 := hid.1
    have hi2 := hid.2.1
    have eU1 := hs.f 1
    refine j_iload (pc := 32) hC d_P_latestStart_32 rfl ?_
    refine j_bipush (pc := 34) hC d_P_latestStart_34 (by decide) ?_
    refine j_icmp_ge (pc := 36) (tgt := 94) hC d_P_latestStart_36 (by decide) (fun w36 => ?_) (fun w36 => ?_)
    · refine j_iload_n (pc := 94) hC d_P_latestStart_94 rfl ?_
      exact j_iret (pc := 95) hC d_P_latestStart_95 (hp _ _ hs (late_of hid a1 hf (fun b q1 q2 => hno b (by have := bs_end hb (by omega); omega) q2)))
    · refine j_iload_n (pc := 39) hC d_P_latestStart_39 rfl ?_
      refine j_iload_n (pc := 40) hC d_P_latestStart_40 rfl ?_
      refine j_icmp_ge (pc := 41) (tgt := 94) hC d_P_latestStart_41 (by decide) (fun w41 => ?_) (fun w41 => ?_)
      · refine j_iload_n (pc := 94) hC d_P_latestStart_94 rfl ?_
        exact j_iret (pc := 95) hC d_P_latestStart_95 (hp _ _ hs (late_of hid a1 hf (fun b q1 q2 => hno b (by omega) q2)))
      · refine j_iload_n (pc := 44) hC d_P_latestStart_44 rfl ?_
        refine j_iload_n (pc := 45) hC d_P_latestStart_45 rfl ?_
        refine j_iadd (pc := 46) hC d_P_latestStart_46 ?_
        refine j_iconst (pc := 47) hC d_P_latestStart_47 ?_
        refine j_iadd (pc := 48) hC d_P_latestStart_48 ?_
        refine j_iconst (pc := 49) hC d_P_latestStart_49 ?_
        refine j_shr1 (pc := 50) hC d_P_latestStart_50 ?_
        refine j_istore_5 (pc := 51) hC d_P_latestStart_51 (by decide) ?_
        refine j_aload_n (pc := 53) hC d_P_latestStart_53 rfl ?_
        refine j_iload_n (pc := 54) hC d_P_latestStart_54 rfl ?_
        refine jp_callv1 (pc := 55) hC hG (cw_P_82 (by decide)) rfl d_P_latestStart_55 (c_P_askAllBut U ho id (by omega) (by omega)) (fun V p55 o55 => ?_)
        have hsV := hs.trans p55.sc
        have e3 := hsV.a 3 id
        have hn := p55.2.2.1
        have hfx := fx_res (r := (low + high + 1) / 2) (d := S 3 id) ho hw hoS hs p55 (e := id) (fun q => q.2 rfl) (Or.inl rfl) (by omega) (by omega) (by omega) (by omega)
        refine j_aload_n (pc := 58) hC d_P_latestStart_58 rfl ?_
        refine j_iload (pc := 59) hC d_P_latestStart_59 rfl ?_
        refine j_aload_n (pc := 61) hC d_P_latestStart_61 rfl ?_
        refine jp_gf_until (pc := 62) hC hG d_P_latestStart_62 ?_
        refine j_iload_n (pc := 65) hC d_P_latestStart_65 rfl ?_
        refine jp_ld_until (pc := 66) hC hG d_P_latestStart_66 (fun l66 u66 => ?_)
        refine jp_callv2 (pc := 67) hC hG (cw_P_70 (by decide)) rfl d_P_latestStart_67 (c_P_ask V o55 ((low + high + 1) / 2) (V 3 id) (by omega) (by omega) (by omega) (by omega) (by omega)) (fun S67 p67 o67 => ?_)
        refine J.eqs p67 ?_
        rw [e3] at p67
        rw [p67] at o67
        rw [e3]
        refine j_aload_n (pc := 70) hC d_P_latestStart_70 rfl ?_
        refine jp_calli0 (pc := 71) hC hG (cw_P_74 (by decide)) rfl d_P_latestStart_71 (c_P_feasible _ o67 hfx.1) (fun z W p71 o71 => ?_)
        have hz := hfx.2 _ _ p71
        have hz01 : z = 0 ∨ z = 1 := by rcases hz.2 with q | q; (right; exact q.1); (left; exact q.1)
        refine j_if_eq (pc := 74) (tgt := 83) hC d_P_latestStart_74 (by decide) (fun w74 => ?_) (fun w74 => ?_)
        · refine j_iload (pc := 83) hC d_P_latestStart_83 rfl ?_
          refine j_iconst (pc := 85) hC d_P_latestStart_85 ?_
          refine j_isub (pc := 86) hC d_P_latestStart_86 ?_
          refine j_istore_3 (pc := 87) hC d_P_latestStart_87 (by decide) ?_
          refine j_iinc_4 (pc := 88) hC d_P_latestStart_88 (by decide) ?_
          refine j_goto (pc := 91) (tgt := 32) hC d_P_latestStart_91 (by decide) ?_
          exact j_forget5 1 (ih low ((low + high + 1) / 2 - 1) (rnd + 1) W (by omega) (by omega) (by omega) (bs_step hb (by omega) (by omega)) (by omega) (by omega) (by omega) hz.1 hf (fun b q1 q2 q3 => by rcases hz.2 with q | q; (omega); (exact q.2 (FX_anti q3 (by omega)))))
        · refine j_iload (pc := 77) hC d_P_latestStart_77 rfl ?_
          refine j_istore_2 (pc := 79) hC d_P_latestStart_79 (by decide) ?_
          refine j_goto (pc := 80) (tgt := 88) hC d_P_latestStart_80 (by decide) ?_
          refine j_iinc_4 (pc := 88) hC d_P_latestStart_88 (by decide) ?_
          refine j_goto (pc := 91) (tgt := 32) hC d_P_latestStart_91 (by decide) ?_
          exact j_forget5 1 (ih ((low + high + 1) / 2) high (rnd + 1) W (by omega) (by omega) (by omega) (bs_step hb (by omega) (by omega)) (by omega) (by omega) (by omega) hz.1 (by rcases hz.2 with q | q; (exact q.2); (omega)) hno)
theorem FB_FX {S : St} {id : Int} (hid : BS S id) (hf : FB S) : FX S id (S 2 id) (S 3 id) := FQ_mono (fun i q => by
  rcases q with q | q
  · exact q
  · rw [q]; exact hid) (fun i q => by
  by_cases e : i = id
  · rw [e, updI_eq, updI_eq]; omega
  · rw [updI_ne e, updI_ne e]; exact ⟨Int.le_refl _, Int.le_refl _⟩) hf
theorem c_P_latestStart (S : St) (ho : okP S) (hw : WfS S) (hf : FB S) (id : Int) (i1 : -2147483648 ≤ id) (i2 : id ≤ 2147483647) : Ct PW okP y_P_latestStart b_P_latestStart 6 (some .int) 4 [id] S (fun z u => (¬ holdsId S id ∧ z = -1 ∧ u = S) ∨ (holdsId S id ∧ Sc S u ∧ lateQ S id z)) := by
  refine Ct.of (by decide) (Nat.le_of_ble_eq_true rfl) ho (fun X hW hk hC => ?_)
  have hG : GP X := ⟨hW, hk⟩
  replace hC : CX X R_P b_P_latestStart 6 (some .int) 4 := hC
  show J X 6 (some .int) _ S 0 [some (.ref (gA X 0)), some (vI id), none, none, none, none] []
  refine j_aload_n (pc := 0) hC d_P_latestStart_0 rfl ?_
  refine j_iload_n (pc := 1) hC d_P_latestStart_1 rfl ?_
  refine jp_calli1 (pc := 2) hC hG (cw_P_78 (by decide)) rfl d_P_latestStart_2 (c_P_holds S ho id i1 i2) (fun zh S2 p2 o2 => ?_)
  refine J.eqs p2.1 ?_
  replace p2 := p2.2
  have hzh : zh = 0 ∨ zh = 1 := by rcases p2 with q | q; (right; exact q.1); (left; exact q.1)
  refine j_if_ne (pc := 5) (tgt := 10) hC d_P_latestStart_5 (by decide) (fun w5 => ?_) (fun w5 => ?_)
  · have hh : holdsId S id := by rcases p2 with q | q; (exact q.2); (omega)
    have hwi := hw id hh
    have hb0 := ho.1
    have hb1 := ho.2.1
    have hi1 := hh.1
    have hi2 := hh.2.1
    refine j_aload_n (pc := 10) hC d_P_latestStart_10 rfl ?_
    refine jp_gf_from (pc := 11) hC hG d_P_latestStart_11 ?_
    refine j_iload_n (pc := 14) hC d_P_latestStart_14 rfl ?_
    refine jp_ld_from (pc := 15) hC hG d_P_latestStart_15 (fun l15 u15 => ?_)
    refine j_istore_2 (pc := 16) hC d_P_latestStart_16 (by decide) ?_
    refine j_aload_n (pc := 17) hC d_P_latestStart_17 rfl ?_
    refine jp_gf_until (pc := 18) hC hG d_P_latestStart_18 ?_
    refine j_iload_n (pc := 21) hC d_P_latestStart_21 rfl ?_
    refine jp_ld_until (pc := 22) hC hG d_P_latestStart_22 (fun l22 u22 => ?_)
    refine j_aload_n (pc := 23) hC d_P_latestStart_23 rfl ?_
    refine jp_gf_length (pc := 24) hC hG d_P_latestStart_24 (fun l24 u24 => ?_)
    refine j_isub (pc := 27) hC d_P_latestStart_27 ?_
    refine j_istore_3 (pc := 28) hC d_P_latestStart_28 (by decide) ?_
    refine j_iconst (pc := 29) hC d_P_latestStart_29 ?_
    refine j_istore_4 (pc := 30) hC d_P_latestStart_30 (by decide) ?_
    exact lp_P_latestStart ho hw hh hC hG (fun z u h1 h2 => Or.inr ⟨hh, h1, h2⟩) 10 (S 2 id) (S 3 id - S 0 0) 0 S (by omega) (by omega) (by omega) (by unfold bsI; omega) (by omega) (by omega) (by omega) (Sc.rf S) (FB_FX hh hf) (fun m _ _ => by omega)
  · refine j_iconst (pc := 8) hC d_P_latestStart_8 ?_
    exact j_iret (pc := 9) hC d_P_latestStart_9 (Or.inl ⟨by rcases p2 with q | q; (omega); (exact q.2), rfl, rfl⟩)
end SearchP
end
section
-- THE PLANNER: makePlan(), plannedStart(id)
def PlanOk (S : St) : Prop := ∀ i, BS S i → earlQ S i i (S 11 i)
/-- only the scratch and the plan differ -/
def Scp (S u : St) : Prop := ∀ b j, b ≠ 7 → b ≠ 8 → b ≠ 9 → b ≠ 10 → b ≠ 11 → ¬ (b = 0 ∧ j = 2) → ¬ (b = 0 ∧ j = 3) → ¬ (b = 0 ∧ j = 4) → u b j = S b j
theorem Sc.scp {S u : St} (h : Sc S u) : Scp S u := fun b j a1 a2 a3 a4 _ a6 a7 _ => h b j a1 a2 a3 a4 a6 a7
theorem Scp.trans {S U V : St} (h : Scp S U) (h' : Scp U V) : Scp S V := fun b j a1 a2 a3 a4 a5 a6 a7 a8 => (h' b j a1 a2 a3 a4 a5 a6 a7 a8).trans (h b j a1 a2 a3 a4 a5 a6 a7 a8)
theorem Scp.f0 {S u : St} (h : Scp S u) : u 0 0 = S 0 0 := h 0 0 (by decide) (by decide) (by decide) (by decide) (by decide) (by decide) (by decide) (by decide)
theorem Scp.f1 {S u : St} (h : Scp S u) : u 0 1 = S 0 1 := h 0 1 (by decide) (by decide) (by decide) (by decide) (by decide) (by decide) (by decide) (by decide)
theorem Scp.a {S u : St} (h : Scp S u) (b : Nat) (j : Int) (h0 : b ≠ 0 := by decide) (h7 : b ≠ 7 := by decide) (h8 : b ≠ 8 := by decide) (h9 : b ≠ 9 := by decide) (h10 : b ≠ 10 := by decide) (h11 : b ≠ 11 := by decide) : u b j = S b j := h b j h7 h8 h9 h10 h11 (fun q => h0 q.1) (fun q => h0 q.1) (fun q => h0 q.1)
theorem Scp.same {S u : St} (h : Scp S u) : SameQ S u := SameQ.of h.f0 (fun k _ _ => ⟨h.a 4 k, fun _ => ⟨h.a 5 k, h.a 6 k⟩⟩)
theorem Scp.BS {S U : St} (h : Scp S U) (i : Int) : BS U i ↔ BS S i := by
  show (0 ≤ i ∧ i < U 0 1 ∧ U 1 i = 1) ↔ (0 ≤ i ∧ i < S 0 1 ∧ S 1 i = 1)
  rw [h.f1, h.a 1 i]
theorem Scp.wf {S U : St} (h : Scp S U) (hw : WfS S) : WfS U := by
  intro i hi
  rw [h.a 2, h.a 3, h.f0]
  exact hw i ((h.BS i).mp hi)
theorem FEp_congr {U V : St} {pins id s : Int} (h : Scp U V) (h11 : ∀ j, BS U j → j < pins → j ≠ id → V 11 j = U 11 j) : FEp V pins id s ↔ FEp U pins id s := by
  unfold FEp
  rw [h.same.FQ]
  refine FQ_iff h.BS (fun i hi => ?_)
  by_cases e : i = id
  · rw [e, updI_eq, updI_eq, updI_eq, updI_eq, h.f0]; exact ⟨rfl, rfl⟩
  · rw [updI_ne e, updI_ne e, updI_ne e, updI_ne e]
    unfold pinR pinD
    by_cases q : i < pins
    · rw [if_pos q, if_pos q, if_pos q, if_pos q, h11 i ((h.BS i).mp hi) q e, h.f0]; exact ⟨rfl, rfl⟩
    · rw [if_neg q, if_neg q, if_neg q, if_neg q, h.a 2, h.a 3]; exact ⟨rfl, rfl⟩
theorem earlQ_congr {U V : St} {pins id z : Int} (h : Scp U V) (h11 : ∀ j, BS U j → j < pins → j ≠ id → V 11 j = U 11 j) (hq : earlQ U pins id z) : earlQ V pins id z := by
  obtain ⟨a, b, c, d⟩ := hq
  refine ⟨by rw [h.a 2]; exact a, by rw [h.f0, h.a 3]; exact b, (FEp_congr h h11).mpr c, fun m m0 m1 q => d m (by rw [← h.a 2]; exact m0) m1 ((FEp_congr h h11).mp q)⟩
theorem PlanOk.sc {S U : St} (h : PlanOk S) (hs : Sc S U) : PlanOk U := by
  intro i hi
  rw [hs.a 11]
  exact earlQ_congr hs.scp (fun j _ _ _ => hs.a 11 j) (h i ((hs.BS i).mp hi))
def mkI (S U : St) (k : Int) : Prop := Scp S U ∧ U 0 4 = 1 ∧ (∀ i, BS U i → i < k → earlQ U i i (U 11 i)) ∧ FQ U (BS U) (pinR U k) (pinD U k)
theorem mk_skip {S U : St} {k : Int} (h : mkI S U k) (h0 : 0 ≤ k) (hk : k < U 0 1) (q : ¬ U 1 k = 1) : mkI S U (k + 1) := by
  obtain ⟨h1, h2, h3, h4⟩ := h
  have hne : ∀ i, BS U i → i ≠ k := fun i hi e => q (e ▸ hi.2.2)
  refine ⟨h1, h2, fun i hi hk => h3 i hi (by have := hne i hi; omega), (FQ_iff (fun _ => Iff.rfl) (fun i hi => ?_)).mp h4⟩
  have := hne i hi
  unfold pinR pinD
  by_cases e : i < k
  · rw [if_pos e, if_pos e, if_pos (by omega), if_pos (by omega)]; exact ⟨rfl, rfl⟩
  · rw [if_neg e, if_neg e, if_neg (by omega), if_neg (by omega)]; exact ⟨rfl, rfl⟩
theorem mk_FP {S U : St} {k : Int} (h : mkI S U k) : FP U k k (U 3 k - U 0 0) := by
  refine (FQ_iff (fun _ => Iff.rfl) (fun i hi => ?_)).mp h.2.2.2
  by_cases e : i = k
  · rw [e, updI_eq, updI_eq]
    unfold pinR pinD
    rw [if_neg (by omega), if_neg (by omega)]
    omega
  · rw [updI_ne e, updI_ne e]; exact ⟨rfl, rfl⟩
theorem mk_take {S U V : St} {k z : Int} (h : mkI S U k) (hk : BS U k) (hs : Sc U V) (hz : earlQ U k k z) : mkI S (s2 V 11 k z) (k + 1) := by
  obtain ⟨h1, h2, h3, h4⟩ := h
  have hW : Scp U (s2 V 11 k z) := fun b j a1 a2 a3 a4 a5 a6 a7 a8 => by rw [s2_ne (fun q => a5 q.1)]; exact hs b j a1 a2 a3 a4 a6 a7
  have h11 : ∀ j, j ≠ k → s2 V 11 k z 11 j = U 11 j := fun j e => by rw [s2_ne (fun q => e q.2)]; exact hs.a 11 j
  refine ⟨h1.trans hW, by rw [s2_ne (by rintro ⟨q, -⟩; cases q)]; rw [hs.f 4]; exact h2, fun i hi hik => ?_, ?_⟩
  · have hi' := (hW.BS i).mp hi
    by_cases e : i = k
    · rw [e, s2_eq]
      exact earlQ_congr hW (fun j _ q _ => h11 j (by omega)) hz
    · rw [h11 i e]
      exact earlQ_congr hW (fun j _ q _ => h11 j (by omega)) (h3 i hi' (by omega))
  · rw [hW.same.FQ]
    refine (FQ_iff (fun i => (hW.BS i).symm) (fun i hi => ?_)).mp hz.2.2.1
    unfold pinR pinD
    by_cases e : i = k
    · rw [e, updI_eq, updI_eq, if_pos (by omega), if_pos (by omega), s2_eq, hW.f0]; exact ⟨rfl, rfl⟩
    · rw [updI_ne e, updI_ne e]
      by_cases q : i < k
      · rw [if_pos q, if_pos q, if_pos (by omega), if_pos (by omega), h11 i e, hW.f0]; exact ⟨rfl, rfl⟩
      · rw [if_neg q, if_neg q, if_neg (by omega), if_neg (by omega), hW.a 2, hW.a 3]; exact ⟨rfl, rfl⟩
section PlanP
variable {X : Cx} {S : St} {post : Int → St → Prop}
theorem lp_P_makePlan (hw : WfS S) (hC : CX X R_P b_P_makePlan 2 none 5) (hG : GP X) (hp : ∀ u, mkI S u (S 0 1) → post 0 u) : ∀ (n : Nat) (k : Int) (U : St), 0 ≤ k → k ≤ S 0 1 → S 0 1 - k < n → mkI S U k → J X 2 none post U 7 [some (.ref (gA X 0)), some (vI k)] [] := by
  intro n
  induction n with
  | zero => intro k U h1 h2 h3; omega
  | succ n ih =>
    intro k U h1 h2 h3 hI
    refine jp_ok hG (fun ho => ?_)
    have e1 := hI.1.f1
    have hb0 := ho.1
    have hb1 := ho.2.1
    have hwU := hI.1.wf hw
    refine j_iload_n (pc := 7) hC d_P_makePlan_7 rfl ?_
    refine j_aload_n (pc := 8) hC d_P_makePlan_8 rfl ?_
    refine jp_gf_capacity (pc := 9) hC hG d_P_makePlan_9 (fun l9 u9 => ?_)
    refine j_icmp_ge (pc := 12) (tgt := 43) hC d_P_makePlan_12 (by decide) (fun w12 => ?_) (fun w12 => ?_)
    · exact j_vret (pc := 43) hC d_P_makePlan_43 (hp U (by rw [show S 0 1 = k by omega]; exact hI))
    · refine j_aload_n (pc := 15) hC d_P_makePlan_15 rfl ?_
      refine jp_gf_used (pc := 16) hC hG d_P_makePlan_16 ?_
      refine j_iload_n (pc := 19) hC d_P_makePlan_19 rfl ?_
      refine jp_ld_used (pc := 20) hC hG d_P_makePlan_20 (fun l20 u20 => ?_)
      refine j_if_eq (pc := 21) (tgt := 37) hC d_P_makePlan_21 (by decide) (fun w21 => ?_) (fun w21 => ?_)
      · refine j_iinc_1 (pc := 37) hC d_P_makePlan_37 (by decide) ?_
        refine j_goto (pc := 40) (tgt := 7) hC d_P_makePlan_40 (by decide) ?_
        exact ih (k + 1) U (by omega) (by omega) (by omega) (mk_skip hI h1 (by omega) (by omega))
      · have hk : BS U k := ⟨h1, by omega, by omega⟩
        have hpl : ∀ i, BS U i → i < k → 0 ≤ U 11 i ∧ U 11 i + U 0 0 ≤ 40 := fun i q1 q2 => by
          have a := hI.2.2.1 i q1 q2
          have b := hwU i q1
          have := a.1
          have := a.2.1
          omega
        have hwk := hwU k hk
        refine j_aload_n (pc := 24) hC d_P_makePlan_24 rfl ?_
        refine jp_gf_plan (pc := 25) hC hG d_P_makePlan_25 ?_
        refine j_iload_n (pc := 28) hC d_P_makePlan_28 rfl ?_
        refine j_aload_n (pc := 29) hC d_P_makePlan_29 rfl ?_
        refine j_iload_n (pc := 30) hC d_P_makePlan_30 rfl ?_
        refine j_iload_n (pc := 31) hC d_P_makePlan_31 rfl ?_
        refine jp_calli2 (pc := 32) hC hG (cw_P_92 (by decide)) rfl d_P_makePlan_32 (c_P_earliestOf U ho hwU k k hk hpl (by omega) (by omega) (mk_FP hI)) (fun z V p32 o32 => ?_)
        have hz1 := p32.2.1
        have hz2 := p32.2.2.1
        refine j_i2b (pc := 35) hC d_P_makePlan_35 (k := ?_)
        refine jp_st_plan (pc := 36) hC hG d_P_makePlan_36 ?_
        refine j_iinc_1 (pc := 37) hC d_P_makePlan_37 (by decide) ?_
        refine j_goto (pc := 40) (tgt := 7) hC d_P_makePlan_40 (by decide) ?_
        exact ih (k + 1) _ (by omega) (by omega) (by omega) (mk_take hI hk p32.1 p32.2)
theorem c_P_makePlan (S : St) (ho : okP S) (hw : WfS S) (hf : FB S) : Ct PW okP y_P_makePlan b_P_makePlan 2 none 5 [] S (fun _ u => mkI S u (S 0 1)) := by
  refine Ct.of (by decide) (Nat.le_of_ble_eq_true rfl) ho (fun X hW hk hC => ?_)
  have hG : GP X := ⟨hW, hk⟩
  replace hC : CX X R_P b_P_makePlan 2 none 5 := hC
  show J X 2 none _ S 0 [some (.ref (gA X 0)), none] []
  have hb1 := ho.2.1
  have h0 : Scp S (s2 S 0 4 1) := fun b j _ _ _ _ _ _ _ a8 => s2_ne a8
  refine j_aload_n (pc := 0) hC d_P_makePlan_0 rfl ?_
  refine j_iconst (pc := 1) hC d_P_makePlan_1 ?_
  refine jp_pf_planKnown (pc := 2) hC hG d_P_makePlan_2 ?_
  refine j_iconst (pc := 5) hC d_P_makePlan_5 ?_
  refine j_istore_1 (pc := 6) hC d_P_makePlan_6 (by decide) ?_
  refine lp_P_makePlan hw hC hG (fun u h => h) 10 0 _ (by omega) (by omega) (by omega) ⟨h0, s2_eq _ _ _ _, fun i hi q => by have := hi.1; omega, ?_⟩
  rw [h0.same.FQ]
  refine (FQ_iff (fun i => (h0.BS i).symm) (fun i hi => ?_)).mp hf
  rw [pinR_0 hi.1, pinD_0 hi.1]
  exact ⟨(h0.a 2 i).symm, (h0.a 3 i).symm⟩
theorem mkI.ok {S U : St} (h : mkI S U (S 0 1)) : PlanOk U := fun i hi => h.2.2.1 i hi (by rw [← h.1.f1]; exact hi.2.1)
theorem c_P_plannedStart (S : St) (ho : okP S) (hw : WfS S) (hf : FB S) (hpk : S 0 4 = 1 → PlanOk S) (id : Int) (i1 : -2147483648 ≤ id) (i2 : id ≤ 2147483647) : Ct PW okP y_P_plannedStart b_P_plannedStart 2 (some .int) 6 [id] S (fun z u => (¬ holdsId S id ∧ z = -1 ∧ u = S) ∨ (holdsId S id ∧ Scp S u ∧ u 0 4 = 1 ∧ PlanOk u ∧ z = u 11 id)) := by
  refine Ct.of (by decide) (Nat.le_of_ble_eq_true rfl) ho (fun X hW hk hC => ?_)
  have hG : GP X := ⟨hW, hk⟩
  replace hC : CX X R_P b_P_plannedStart 2 (some .int) 6 := hC
  show J X 2 (some .int) _ S 0 [some (.ref (gA X 0)), some (vI id)] []
  have hb1 := ho.2.1
  refine j_aload_n (pc := 0) hC d_P_plannedStart_0 rfl ?_
  refine j_iload_n (pc := 1) hC d_P_plannedStart_1 rfl ?_
  refine jp_calli1 (pc := 2) hC hG (cw_P_78 (by decide)) rfl d_P_plannedStart_2 (c_P_holds S ho id i1 i2) (fun zh S2 p2 o2 => ?_)
  refine J.eqs p2.1 ?_
  replace p2 := p2.2
  have hzh : zh = 0 ∨ zh = 1 := by rcases p2 with q | q; (right; exact q.1); (left; exact q.1)
  refine j_if_ne (pc := 5) (tgt := 10) hC d_P_plannedStart_5 (by decide) (fun w5 => ?_) (fun w5 => ?_)
  · have hh : holdsId S id := by rcases p2 with q | q; (exact q.2); (omega)
    have hi1 := hh.1
    have hi2 := hh.2.1
    refine j_aload_n (pc := 10) hC d_P_plannedStart_10 rfl ?_
    refine jp_gf_planKnown (pc := 11) hC hG d_P_plannedStart_11 (fun l11 u11 => ?_)
    refine j_if_ne (pc := 14) (tgt := 21) hC d_P_plannedStart_14 (by decide) (fun w14 => ?_) (fun w14 => ?_)
    · refine j_aload_n (pc := 21) hC d_P_plannedStart_21 rfl ?_
      refine jp_gf_plan (pc := 22) hC hG d_P_plannedStart_22 ?_
      refine j_iload_n (pc := 25) hC d_P_plannedStart_25 rfl ?_
      refine jp_ld_plan (pc := 26) hC hG d_P_plannedStart_26 (fun l26 u26 => ?_)
      exact j_iret (pc := 27) hC d_P_plannedStart_27 (Or.inr ⟨hh, (Sc.rf S).scp, by omega, hpk (by omega), rfl⟩)
    · refine j_aload_n (pc := 17) hC d_P_plannedStart_17 rfl ?_
      refine jp_callv0 (pc := 18) hC hG (cw_P_95 (by decide)) rfl d_P_plannedStart_18 (c_P_makePlan S ho hw hf) (fun U p18 o18 => ?_)
      refine j_aload_n (pc := 21) hC d_P_plannedStart_21 rfl ?_
      refine jp_gf_plan (pc := 22) hC hG d_P_plannedStart_22 ?_
      refine j_iload_n (pc := 25) hC d_P_plannedStart_25 rfl ?_
      refine jp_ld_plan (pc := 26) hC hG d_P_plannedStart_26 (fun l26 u26 => ?_)
      exact j_iret (pc := 27) hC d_P_plannedStart_27 (Or.inr ⟨hh, p18.1, p18.2.1, p18.ok, rfl⟩)
  · refine j_iconst (pc := 8) hC d_P_plannedStart_8 ?_
    exact j_iret (pc := 9) hC d_P_plannedStart_9 (Or.inl ⟨by rcases p2 with q | q; (omega); (exact q.2), rfl, rfl⟩)
end PlanP
end
section
-- THE MODEL'S PUBLIC METHODS
def BM (S : St) : Int → Prop := fun i => 0 ≤ i ∧ i < 6 ∧ S 1 i = 1
def WfM (S : St) : Prop := ∀ i, BM S i → 0 ≤ S 2 i ∧ S 2 i + S 0 0 ≤ S 3 i ∧ S 3 i ≤ 40
def ScM (S u : St) : Prop := ∀ b i, b ≠ 7 → b ≠ 8 → b ≠ 9 → ¬ (b = 0 ∧ i = 2) → u b i = S b i
theorem ScM.rf (S : St) : ScM S S := fun _ _ _ _ _ _ => rfl
theorem ScM.trans {S U V : St} (h : ScM S U) (h' : ScM U V) : ScM S V := fun b j a1 a2 a3 a4 => (h' b j a1 a2 a3 a4).trans (h b j a1 a2 a3 a4)
theorem ScM.f {S u : St} (h : ScM S u) (j : Int) (a : j ≠ 2 := by decide) : u 0 j = S 0 j := h 0 j (by decide) (by decide) (by decide) (fun q => a q.2)
theorem ScM.a {S u : St} (h : ScM S u) (b : Nat) (j : Int) (h0 : b ≠ 0 := by decide) (h7 : b ≠ 7 := by decide) (h8 : b ≠ 8 := by decide) (h9 : b ≠ 9 := by decide) : u b j = S b j := h b j h7 h8 h9 (fun q => h0 q.1)
theorem ScM.same {S u : St} (h : ScM S u) : SameQ S u := SameQ.of (h.f 0) (fun k _ _ => ⟨h.a 4 k, fun _ => ⟨h.a 5 k, h.a 6 k⟩⟩)
theorem ScM.BM {S U : St} (h : ScM S U) (i : Int) : BM U i ↔ BM S i := by
  show (0 ≤ i ∧ i < 6 ∧ U 1 i = 1) ↔ (0 ≤ i ∧ i < 6 ∧ S 1 i = 1)
  rw [h.a 1 i]
theorem askMI.sc {S U : St} {a b k : Int} (h : askMI S U a b k) : ScM S U := fun b j a1 a2 _ a4 => h.1 b j a1 a2 a4
theorem winS.n (S : St) (j r d : Int) {b : Nat} {i : Int} (a1 : b ≠ 7) (a2 : b ≠ 8) (a4 : ¬ (b = 0 ∧ i = 2)) : winS S j r d b i = S b i := by
  unfold winS
  rw [s2_ne (fun q => a2 q.1), s2_ne (fun q => a1 q.1), s2_ne a4]
theorem winS.sc (S : St) (j r d : Int) : ScM S (winS S j r d) := fun _ _ a1 a2 _ a4 => winS.n S j r d a1 a2 a4
theorem winS_7 (S : St) (j r d i : Int) : winS S j r d 7 i = if i = j then r else S 7 i := by
  unfold winS
  rw [s2_ne (by rintro ⟨q, -⟩; cases q)]
  by_cases e : i = j
  · rw [if_pos e, e, s2_eq]
  · rw [if_neg e, s2_ne (fun q => e q.2), s2_ne (by rintro ⟨q, -⟩; cases q)]
theorem winS_8 (S : St) (j r d i : Int) : winS S j r d 8 i = if i = j then d else S 8 i := by
  unfold winS
  by_cases e : i = j
  · rw [if_pos e, e, s2_eq]
  · rw [if_neg e, s2_ne (fun q => e q.2), s2_ne (by rintro ⟨q, -⟩; cases q), s2_ne (by rintro ⟨q, -⟩; cases q)]
theorem winS_0 (S : St) (j r d : Int) : winS S j r d 0 2 = iOr (S 0 2) (pw j) := by
  unfold winS
  rw [s2_ne (by rintro ⟨q, -⟩; cases q), s2_ne (by rintro ⟨q, -⟩; cases q), s2_eq]
theorem fitQ.sc {S U : St} {z : Int} (h : fitQ S z U) : ScM S U := fun b j _ _ a3 _ => h.1 b j a3
theorem fitQ.z {S U : St} {z : Int} (h : fitQ S z U) : z = 0 ∨ z = 1 := by
  rcases h.2 with q | q
  · exact Or.inr q.1
  · exact Or.inl q.1
/-- U asks about the jobs P with the windows F, D -/
def AskM (U : St) (P : Int → Prop) (F D : Int → Int) : Prop := (∀ i, bits (U 0 2) i ↔ P i) ∧ ∀ i, P i → U 7 i = F i ∧ U 8 i = D i
theorem AskM.plan {U : St} {P : Int → Prop} {F D : Int → Int} (h : AskM U P F D) : (∃ s, PlanM U s) ↔ FQ U P F D := FQ_iff h.1 (fun i hi => h.2 i ((h.1 i).mp hi))
theorem AskM.ask {S U : St} {a b : Int} (h : askMI S U a b 6) : AskM U (BM S) (fun i => max (S 2 i) a) (fun i => min (S 3 i) b) := by
  refine ⟨fun i => ?_, fun i hi => h.2.2 i hi.1 hi.2.1 hi.2.2⟩
  unfold bits
  rw [h.2.1]
  constructor
  · rintro ⟨q1, q2, q3⟩
    have := (hb_jb (f := S 1) (6 : Int).toNat i q1).mp q3
    exact ⟨q1, by omega, this.2⟩
  · rintro ⟨q1, q2, q3⟩
    exact ⟨q1, by omega, (hb_jb (f := S 1) (6 : Int).toNat i q1).mpr ⟨by omega, q3⟩⟩
theorem AskM.congr {U : St} {P P' : Int → Prop} {F F' D D' : Int → Int} (h : AskM U P F D) (hP : ∀ i, P i ↔ P' i) (hF : ∀ i, P i → F i = F' i ∧ D i = D' i) : AskM U P' F' D' :=
  ⟨fun i => (h.1 i).trans (hP i), fun i hi => by
    have h1 := h.2 i ((hP i).mpr hi)
    have h2 := hF i ((hP i).mpr hi)
    omega⟩
theorem AskM.win {U : St} {P : Int → Prop} {F D : Int → Int} (h : AskM U P F D) {j : Int} (j0 : 0 ≤ j) (j1 : j ≤ 6) (r d : Int) : AskM (winS U j r d) (fun i => P i ∨ i = j) (updI F j r) (updI D j d) := by
  refine ⟨fun i => ?_, fun i hi => ?_⟩
  · unfold bits
    rw [winS_0, hb_or]
    constructor
    · rintro ⟨q1, q2, q3 | q3⟩
      · exact Or.inl ((h.1 i).mp ⟨q1, q2, q3⟩)
      · exact Or.inr ((hb_pw j0 q1).mp q3).symm
    · rintro (q | q)
      · obtain ⟨a, b, c⟩ := (h.1 i).mpr q
        exact ⟨a, b, Or.inl c⟩
      · rw [q]; exact ⟨j0, by omega, Or.inr ((hb_pw j0 j0).mpr rfl)⟩
  · rw [winS_7, winS_8]
    by_cases e : i = j
    · rw [if_pos e, if_pos e, e, updI_eq, updI_eq]; exact ⟨rfl, rfl⟩
    · rw [if_neg e, if_neg e, updI_ne e, updI_ne e]
      rcases hi with q | q
      · exact h.2 i q
      · exact absurd q e
theorem AskM.keep {U V : St} {z : Int} {P : Int → Prop} {F D : Int → Int} (h : AskM U P F D) (hf : fitQ U z V) : AskM V P F D := by
  unfold AskM
  rw [hf.1 0 2 (by decide)]
  exact ⟨h.1, fun i hi => by rw [hf.1 7 i (by decide), hf.1 8 i (by decide)]; exact h.2 i hi⟩
theorem fitQ.q {S U V : St} {z : Int} {P : Int → Prop} {F D : Int → Int} (h : fitQ U z V) (ha : AskM U P F D) (hs : SameQ S U) : (z = 1 ∧ FQ S P F D) ∨ (z = 0 ∧ ¬ FQ S P F D) := by
  rcases h.2 with ⟨h1, h2⟩ | ⟨h1, h2⟩
  · exact Or.inl ⟨h1, hs.FQ.mp (ha.plan.mp h2)⟩
  · refine Or.inr ⟨h1, fun q => ?_⟩
    obtain ⟨s, q⟩ := ha.plan.mpr (hs.FQ.mpr q)
    exact h2 s q
theorem AskM.base {S U : St} (hw : WfM S) (h : askMI S U 0 40 6) : AskM U (BM S) (S 2) (S 3) := (AskM.ask h).congr (fun _ => Iff.rfl) (fun i hi => by
  have := hw i hi
  show max (S 2 i) 0 = S 2 i ∧ min (S 3 i) 40 = S 3 i
  omega)
def FXM (S : St) (e r d : Int) : Prop := FQ S (fun i => BM S i ∨ i = e) (updI (S 2) e r) (updI (S 3) e d)
def FBM (S : St) : Prop := FQ S (BM S) (S 2) (S 3)
def probeM (S : St) (r d z : Int) : Prop := (¬ winOk S r d ∧ z = -1) ∨ (winOk S r d ∧ ∃ f, lfQ S f ∧ ((f = 6 ∧ z = -2) ∨ (f ≠ 6 ∧ ((z = f ∧ FXM S f r d) ∨ (z = -3 ∧ ¬ FXM S f r d)))))
theorem lfQ.bd {S : St} {z : Int} (h : lfQ S z) : 0 ≤ z ∧ z ≤ 6 := by
  rcases h with h | h <;> omega
section TopM
variable {X : Cx} {S : St} {post : Int → St → Prop}
theorem c_M_probe (S : St) (ho : okM S) (hw : WfM S) (r d : Int) (r1 : -2147483648 ≤ r) (r2 : r ≤ 2147483647) (d1 : -2147483648 ≤ d) (d2 : d ≤ 2147483647) : Ct MW okM y_M_probe b_M_probe 4 (some .int) 3 [r, d] S (fun z u => ScM S u ∧ probeM S r d z) := by
  refine Ct.of (by decide) (Nat.le_of_ble_eq_true rfl) ho (fun X hW hk hC => ?_)
  have hG : GM X := ⟨hW, hk⟩
  replace hC : CX X R_M b_M_probe 4 (some .int) 3 := hC
  show J X 4 (some .int) _ S 0 [some (.ref (gA X 0)), some (vI r), some (vI d), none] []
  refine j_aload_n (pc := 0) hC d_M_probe_0 rfl ?_
  refine j_iload_n (pc := 1) hC d_M_probe_1 rfl ?_
  refine j_iload_n (pc := 2) hC d_M_probe_2 rfl ?_
  refine jm_calli2 (pc := 3) hC hG (cw_M_60 (by decide)) rfl d_M_probe_3 (c_M_badWindow S ho r d r1 r2 d1 d2) (fun zw S3 p3 o3 => ?_)
  refine J.eqs p3.1 ?_
  replace p3 := p3.2
  have hzw : zw = 0 ∨ zw = 1 := by rcases p3 with q | q; (left; exact q.1); (right; exact q.1)
  refine j_if_eq (pc := 6) (tgt := 11) hC d_M_probe_6 (by decide) (fun w6 => ?_) (fun w6 => ?_)
  · refine j_aload_n (pc := 11) hC d_M_probe_11 rfl ?_
    refine jm_calli0 (pc := 12) hC hG (cw_M_64 (by decide)) rfl d_M_probe_12 (c_M_leastFree S ho) (fun f S12 p12 o12 => ?_)
    refine J.eqs p12.1 ?_
    replace p12 := p12.2
    have hf := p12.bd
    refine j_istore_3 (pc := 15) hC d_M_probe_15 (by decide) ?_
    refine j_iload_n (pc := 16) hC d_M_probe_16 rfl ?_
    refine j_bipush (pc := 17) hC d_M_probe_17 (by decide) ?_
    refine j_icmp_ne (pc := 19) (tgt := 25) hC d_M_probe_19 (by decide) (fun w19 => ?_) (fun w19 => ?_)
    · refine j_aload_n (pc := 25) hC d_M_probe_25 rfl ?_
      refine j_iconst (pc := 26) hC d_M_probe_26 ?_
      refine j_bipush (pc := 27) hC d_M_probe_27 (by decide) ?_
      refine jm_callv2 (pc := 29) hC hG (cw_M_68 (by decide)) rfl d_M_probe_29 (c_M_ask S ho 0 40 (by omega) (by omega) (by omega) (by omega)) (fun U p29 o29 => ?_)
      have hwin : winOk S r d := by
        rcases p3 with q | q
        · exact q.2
        · omega
      obtain ⟨q1, q2, q3, q4, q5⟩ := _root_.id hwin
      have hA := (AskM.base hw p29).win (j := f) (by omega) (by omega) r d
      have hS := p29.sc.trans (winS.sc U f r d)
      refine j_aload_n (pc := 32) hC d_M_probe_32 rfl ?_
      refine j_iload_n (pc := 33) hC d_M_probe_33 rfl ?_
      refine j_iload_n (pc := 34) hC d_M_probe_34 rfl ?_
      refine j_iload_n (pc := 35) hC d_M_probe_35 rfl ?_
      refine jm_callv3 (pc := 36) hC hG (cw_M_71 (by decide)) rfl d_M_probe_36 (c_M_window U o29 f r d (by omega) (by omega) (by omega) (by omega) (by omega) (by omega)) (fun S36 p36 o36 => ?_)
      refine J.eqs p36 ?_
      rw [p36] at o36
      refine j_aload_n (pc := 39) hC d_M_probe_39 rfl ?_
      refine jm_calli0 (pc := 40) hC hG (cw_M_75 (by decide)) rfl d_M_probe_40 (c_M_fits _ o36) (fun z V p40 o40 => ?_)
      have hz := p40.q hA hS.same
      have hz01 := p40.z
      have hSV := hS.trans p40.sc
      refine j_if_eq (pc := 43) (tgt := 50) hC d_M_probe_43 (by decide) (fun w43 => ?_) (fun w43 => ?_)
      · refine j_bipush (pc := 50) hC d_M_probe_50 (by decide) ?_
        exact j_iret (pc := 52) hC d_M_probe_52 (⟨hSV, Or.inr ⟨hwin, f, p12, Or.inr ⟨by omega, Or.inr ⟨rfl, by rcases hz with q | q; (omega); (exact q.2)⟩⟩⟩⟩)
      · refine j_iload_n (pc := 46) hC d_M_probe_46 rfl ?_
        refine j_goto (pc := 47) (tgt := 52) hC d_M_probe_47 (by decide) ?_
        exact j_iret (pc := 52) hC d_M_probe_52 (⟨hSV, Or.inr ⟨hwin, f, p12, Or.inr ⟨by omega, Or.inl ⟨rfl, by rcases hz with q | q; (exact q.2); (omega)⟩⟩⟩⟩)
    · refine j_bipush (pc := 22) hC d_M_probe_22 (by decide) ?_
      exact j_iret (pc := 24) hC d_M_probe_24 (⟨ScM.rf S, Or.inr ⟨by rcases p3 with q | q; (exact q.2); (omega), f, p12, Or.inl ⟨by omega, rfl⟩⟩⟩)
  · refine j_iconst (pc := 9) hC d_M_probe_9 ?_
    exact j_iret (pc := 10) hC d_M_probe_10 (⟨ScM.rf S, Or.inl ⟨by rcases p3 with q | q; (omega); (exact q.2), rfl⟩⟩)
def offerM (V : St) (z r d : Int) : St := s2 (s2 (s2 V 1 z 1) 2 z r) 3 z d
theorem probeM.bd {S : St} {r d z : Int} (h : probeM S r d z) : -3 ≤ z ∧ z ≤ 5 ∧ (0 ≤ z → winOk S r d) := by
  rcases h with h | ⟨h, f, f1, h2 | ⟨h2, h3 | h3⟩⟩
  · exact ⟨by omega, by omega, by omega⟩
  · exact ⟨by omega, by omega, by omega⟩
  · have := f1.bd; exact ⟨by omega, by omega, fun _ => h⟩
  · exact ⟨by omega, by omega, by omega⟩
theorem c_M_offer (S : St) (ho : okM S) (hw : WfM S) (r d : Int) (r1 : -2147483648 ≤ r) (r2 : r ≤ 2147483647) (d1 : -2147483648 ≤ d) (d2 : d ≤ 2147483647) : Ct MW okM y_M_offer b_M_offer 4 (some .int) 4 [r, d] S (fun z u => probeM S r d z ∧ ((z < 0 ∧ ScM S u) ∨ (0 ≤ z ∧ ∃ V, ScM S V ∧ u = offerM V z r d))) := by
  refine Ct.of (by decide) (Nat.le_of_ble_eq_true rfl) ho (fun X hW hk hC => ?_)
  have hG : GM X := ⟨hW, hk⟩
  replace hC : CX X R_M b_M_offer 4 (some .int) 4 := hC
  show J X 4 (some .int) _ S 0 [some (.ref (gA X 0)), some (vI r), some (vI d), none] []
  refine j_aload_n (pc := 0) hC d_M_offer_0 rfl ?_
  refine j_iload_n (pc := 1) hC d_M_offer_1 rfl ?_
  refine j_iload_n (pc := 2) hC d_M_offer_2 rfl ?_
  refine jm_calli2 (pc := 3) hC hG (cw_M_56 (by decide)) rfl d_M_offer_3 (c_M_probe S ho hw r d r1 r2 d1 d2) (fun z V p3 o3 => ?_)
  obtain ⟨hz1, hz2, hz3⟩ := p3.2.bd
  refine j_istore_3 (pc := 6) hC d_M_offer_6 (by decide) ?_
  refine j_iload_n (pc := 7) hC d_M_offer_7 rfl ?_
  refine j_if_lt (pc := 8) (tgt := 38) hC d_M_offer_8 (by decide) (fun w8 => ?_) (fun w8 => ?_)
  · refine j_iload_n (pc := 38) hC d_M_offer_38 rfl ?_
    exact j_iret (pc := 39) hC d_M_offer_39 (⟨p3.2, Or.inl ⟨by omega, p3.1⟩⟩)
  · refine j_iload_n (pc := 11) hC d_M_offer_11 rfl ?_
    refine j_bipush (pc := 12) hC d_M_offer_12 (by decide) ?_
    refine j_icmp_ge (pc := 14) (tgt := 38) hC d_M_offer_14 (by decide) (fun w14 => ?_) (fun w14 => ?_)
    · exact False.elim (by omega)
    · obtain ⟨q1, q2, q3, q4, q5⟩ := hz3 (by omega)
      refine j_aload_n (pc := 17) hC d_M_offer_17 rfl ?_
      refine jm_gf_held (pc := 18) hC hG d_M_offer_18 ?_
      refine j_iload_n (pc := 21) hC d_M_offer_21 rfl ?_
      refine j_iconst (pc := 22) hC d_M_offer_22 ?_
      refine jm_st_held (pc := 23) hC hG d_M_offer_23 ?_
      refine j_aload_n (pc := 24) hC d_M_offer_24 rfl ?_
      refine jm_gf_rel (pc := 25) hC hG d_M_offer_25 ?_
      refine j_iload_n (pc := 28) hC d_M_offer_28 rfl ?_
      refine j_iload_n (pc := 29) hC d_M_offer_29 rfl ?_
      refine jm_st_rel (pc := 30) hC hG d_M_offer_30 ?_
      refine j_aload_n (pc := 31) hC d_M_offer_31 rfl ?_
      refine jm_gf_dead (pc := 32) hC hG d_M_offer_32 ?_
      refine j_iload_n (pc := 35) hC d_M_offer_35 rfl ?_
      refine j_iload_n (pc := 36) hC d_M_offer_36 rfl ?_
      refine jm_st_dead (pc := 37) hC hG d_M_offer_37 ?_
      refine j_iload_n (pc := 38) hC d_M_offer_38 rfl ?_
      exact j_iret (pc := 39) hC d_M_offer_39 (⟨p3.2, Or.inr ⟨by omega, V, p3.1, rfl⟩⟩)
def moveM (S : St) (id r d z : Int) (u : St) : Prop := (¬ thereId S id ∧ z = -2 ∧ u = S) ∨ (thereId S id ∧ ((¬ winOk S r d ∧ z = -1 ∧ u = S) ∨ (winOk S r d ∧ ((z = -3 ∧ ¬ FXM S id r d ∧ ScM S u) ∨ (z = id ∧ FXM S id r d ∧ ∃ V, ScM S V ∧ u = s2 (s2 V 2 id r) 3 id d)))))
theorem c_M_move (S : St) (ho : okM S) (hw : WfM S) (id r d : Int) (i1 : -2147483648 ≤ id) (i2 : id ≤ 2147483647) (r1 : -2147483648 ≤ r) (r2 : r ≤ 2147483647) (d1 : -2147483648 ≤ d) (d2 : d ≤ 2147483647) : Ct MW okM y_M_move b_M_move 4 (some .int) 3 [id, r, d] S (fun z u => moveM S id r d z u) := by
  refine Ct.of (by decide) (Nat.le_of_ble_eq_true rfl) ho (fun X hW hk hC => ?_)
  have hG : GM X := ⟨hW, hk⟩
  replace hC : CX X R_M b_M_move 4 (some .int) 3 := hC
  show J X 4 (some .int) _ S 0 [some (.ref (gA X 0)), some (vI id), some (vI r), some (vI d)] []
  refine j_aload_n (pc := 0) hC d_M_move_0 rfl ?_
  refine j_iload_n (pc := 1) hC d_M_move_1 rfl ?_
  refine jm_calli1 (pc := 2) hC hG (cw_M_79 (by decide)) rfl d_M_move_2 (c_M_there S ho id i1 i2) (fun zh S2 p2 o2 => ?_)
  refine J.eqs p2.1 ?_
  replace p2 := p2.2
  have hzh : zh = 0 ∨ zh = 1 := by rcases p2 with q | q; (right; exact q.1); (left; exact q.1)
  refine j_if_ne (pc := 5) (tgt := 11) hC d_M_move_5 (by decide) (fun w5 => ?_) (fun w5 => ?_)
  · refine j_aload_n (pc := 11) hC d_M_move_11 rfl ?_
    refine j_iload_n (pc := 12) hC d_M_move_12 rfl ?_
    refine j_iload_n (pc := 13) hC d_M_move_13 rfl ?_
    refine jm_calli2 (pc := 14) hC hG (cw_M_60 (by decide)) rfl d_M_move_14 (c_M_badWindow S ho r d r1 r2 d1 d2) (fun zw S3 p3 o3 => ?_)
    refine J.eqs p3.1 ?_
    replace p3 := p3.2
    have hzw : zw = 0 ∨ zw = 1 := by rcases p3 with q | q; (left; exact q.1); (right; exact q.1)
    have hh : thereId S id := by
      rcases p2 with q | q
      · exact q.2
      · omega
    obtain ⟨g1, g2, g3⟩ := _root_.id hh
    refine j_if_eq (pc := 17) (tgt := 22) hC d_M_move_17 (by decide) (fun w17 => ?_) (fun w17 => ?_)
    · refine j_aload_n (pc := 22) hC d_M_move_22 rfl ?_
      refine j_iconst (pc := 23) hC d_M_move_23 ?_
      refine j_bipush (pc := 24) hC d_M_move_24 (by decide) ?_
      refine jm_callv2 (pc := 26) hC hG (cw_M_68 (by decide)) rfl d_M_move_26 (c_M_ask S ho 0 40 (by omega) (by omega) (by omega) (by omega)) (fun U p29 o29 => ?_)
      have hwin : winOk S r d := by
        rcases p3 with q | q
        · exact q.2
        · omega
      obtain ⟨q1, q2, q3, q4, q5⟩ := _root_.id hwin
      have hA := (AskM.base hw p29).win (j := id) (by omega) (by omega) r d
      have hS := p29.sc.trans (winS.sc U id r d)
      refine j_aload_n (pc := 29) hC d_M_move_29 rfl ?_
      refine j_iload_n (pc := 30) hC d_M_move_30 rfl ?_
      refine j_iload_n (pc := 31) hC d_M_move_31 rfl ?_
      refine j_iload_n (pc := 32) hC d_M_move_32 rfl ?_
      refine jm_callv3 (pc := 33) hC hG (cw_M_71 (by decide)) rfl d_M_move_33 (c_M_window U o29 id r d (by omega) (by omega) (by omega) (by omega) (by omega) (by omega)) (fun S36 p36 o36 => ?_)
      refine J.eqs p36 ?_
      rw [p36] at o36
      refine j_aload_n (pc := 36) hC d_M_move_36 rfl ?_
      refine jm_calli0 (pc := 37) hC hG (cw_M_75 (by decide)) rfl d_M_move_37 (c_M_fits _ o36) (fun z V p40 o40 => ?_)
      have hz := p40.q hA hS.same
      have hz01 := p40.z
      have hSV := hS.trans p40.sc
      refine j_if_ne (pc := 40) (tgt := 46) hC d_M_move_40 (by decide) (fun w40 => ?_) (fun w40 => ?_)
      · refine j_aload_n (pc := 46) hC d_M_move_46 rfl ?_
        refine jm_gf_rel (pc := 47) hC hG d_M_move_47 ?_
        refine j_iload_n (pc := 50) hC d_M_move_50 rfl ?_
        refine j_iload_n (pc := 51) hC d_M_move_51 rfl ?_
        refine jm_st_rel (pc := 52) hC hG d_M_move_52 ?_
        refine j_aload_n (pc := 53) hC d_M_move_53 rfl ?_
        refine jm_gf_dead (pc := 54) hC hG d_M_move_54 ?_
        refine j_iload_n (pc := 57) hC d_M_move_57 rfl ?_
        refine j_iload_n (pc := 58) hC d_M_move_58 rfl ?_
        refine jm_st_dead (pc := 59) hC hG d_M_move_59 ?_
        refine j_iload_n (pc := 60) hC d_M_move_60 rfl ?_
        exact j_iret (pc := 61) hC d_M_move_61 (Or.inr ⟨hh, Or.inr ⟨hwin, Or.inr ⟨rfl, by rcases hz with q | q; (exact q.2); (omega), V, hSV, rfl⟩⟩⟩)
      · refine j_bipush (pc := 43) hC d_M_move_43 (by decide) ?_
        exact j_iret (pc := 45) hC d_M_move_45 (Or.inr ⟨hh, Or.inr ⟨hwin, Or.inl ⟨rfl, by rcases hz with q | q; (omega); (exact q.2), hSV⟩⟩⟩)
    · refine j_iconst (pc := 20) hC d_M_move_20 ?_
      exact j_iret (pc := 21) hC d_M_move_21 (Or.inr ⟨hh, Or.inl ⟨by rcases p3 with q | q; (omega); (exact q.2), rfl, rfl⟩⟩)
  · refine j_bipush (pc := 8) hC d_M_move_8 (by decide) ?_
    exact j_iret (pc := 10) hC d_M_move_10 (Or.inl ⟨by rcases p2 with q | q; (omega); (exact q.2), rfl, rfl⟩)
/-- block(a, b) -/
def blockM (S : St) (a b z : Int) (u : St) : Prop := (¬ blkOk a b ∧ z = -1 ∧ u = S) ∨ (blkOk a b ∧ ∃ k, blkFree S k ∧ ((k = 4 ∧ z = -2 ∧ u = S) ∨ (k < 4 ∧ ((z = -3 ∧ ¬ FBM (blkS S k a b) ∧ ∃ V, ScM (blkS S k a b) V ∧ u = s2 V 4 k 0) ∨ (z = k ∧ FBM (blkS S k a b) ∧ ∃ V, ScM (blkS S k a b) V ∧ u = V)))))
theorem blkS_wfM {S : St} {k a b : Int} (h : WfM S) : WfM (blkS S k a b) := by
  intro i hi
  unfold BM at hi
  rw [blkS_n S k a b (by decide) (by decide) (by decide)] at hi
  rw [blkS_n S k a b (by decide) (by decide) (by decide), blkS_n S k a b (by decide) (by decide) (by decide), blkS_n S k a b (by decide) (by decide) (by decide)]
  exact h i hi
theorem lp_M_block {a b : Int} (ho : okM S) (hw : WfM S) (hC : CX X R_M b_M_block 4 (some .int) 3) (hG : GM X) (hab : blkOk a b) (hp : ∀ z u, blockM S a b z u → post z u) : ∀ (n : Nat) (k : Int), 0 ≤ k → k ≤ 4 → 4 - k < n → (∀ i, 0 ≤ i → i < k → S 4 i = 1) → J X 4 (some .int) post S 19 [some (.ref (gA X 0)), some (vI a), some (vI b), some (vI k)] [] := by
  intro n
  induction n with
  | zero => intro k h1 h2 h3; omega
  | succ n ih =>
    intro k h1 h2 h3 hI
    obtain ⟨a0, a1, a2⟩ := id hab
    refine j_iload_n (pc := 19) hC d_M_block_19 rfl ?_
    refine j_iconst (pc := 20) hC d_M_block_20 ?_
    refine j_icmp_ge (pc := 21) (tgt := 39) hC d_M_block_21 (by decide) (fun w21 => ?_) (fun w21 => ?_)
    · refine j_iload_n (pc := 39) hC d_M_block_39 rfl ?_
      refine j_iconst (pc := 40) hC d_M_block_40 ?_
      refine j_icmp_ne (pc := 41) (tgt := 47) hC d_M_block_41 (by decide) (fun w41 => ?_) (fun w41 => ?_)
      · exact False.elim (by omega)
      · refine j_bipush (pc := 44) hC d_M_block_44 (by decide) ?_
        exact j_iret (pc := 46) hC d_M_block_46 (hp _ _ (Or.inr ⟨hab, k, ⟨h1, h2, fun _ => by omega, hI⟩, Or.inl ⟨by omega, rfl, rfl⟩⟩))
    · refine j_aload_n (pc := 24) hC d_M_block_24 rfl ?_
      refine jm_gf_shut (pc := 25) hC hG d_M_block_25 ?_
      refine j_iload_n (pc := 28) hC d_M_block_28 rfl ?_
      refine jm_ld_shut (pc := 29) hC hG d_M_block_29 (fun l29 u29 => ?_)
      refine j_if_eq (pc := 30) (tgt := 39) hC d_M_block_30 (by decide) (fun w30 => ?_) (fun w30 => ?_)
      · refine j_iload_n (pc := 39) hC d_M_block_39 rfl ?_
        refine j_iconst (pc := 40) hC d_M_block_40 ?_
        refine j_icmp_ne (pc := 41) (tgt := 47) hC d_M_block_41 (by decide) (fun w41 => ?_) (fun w41 => ?_)
        · refine j_aload_n (pc := 47) hC d_M_block_47 rfl ?_
          refine jm_gf_shut (pc := 48) hC hG d_M_block_48 ?_
          refine j_iload_n (pc := 51) hC d_M_block_51 rfl ?_
          refine j_iconst (pc := 52) hC d_M_block_52 ?_
          refine jm_st_shut (pc := 53) hC hG d_M_block_53 ?_
          refine j_aload_n (pc := 54) hC d_M_block_54 rfl ?_
          refine jm_gf_from (pc := 55) hC hG d_M_block_55 ?_
          refine j_iload_n (pc := 58) hC d_M_block_58 rfl ?_
          refine j_iload_n (pc := 59) hC d_M_block_59 rfl ?_
          refine jm_st_from (pc := 60) hC hG d_M_block_60 ?_
          refine j_aload_n (pc := 61) hC d_M_block_61 rfl ?_
          refine jm_gf_to (pc := 62) hC hG d_M_block_62 ?_
          refine j_iload_n (pc := 65) hC d_M_block_65 rfl ?_
          refine j_iload_n (pc := 66) hC d_M_block_66 rfl ?_
          refine jm_st_to (pc := 67) hC hG d_M_block_67 ?_
          have hoB : okM (blkS S k a b) := okM_to (okM_from (okM_shut ho (by omega) (by omega)) (by omega) (by omega)) (by omega) (by omega)
          refine J.eqs (show _ = blkS S k a b from rfl) ?_
          have hbf : blkFree S k := ⟨h1, h2, fun _ => by omega, hI⟩
          refine j_aload_n (pc := 68) hC d_M_block_68 rfl ?_
          refine j_iconst (pc := 69) hC d_M_block_69 ?_
          refine j_bipush (pc := 70) hC d_M_block_70 (by decide) ?_
          refine jm_callv2 (pc := 72) hC hG (cw_M_68 (by decide)) rfl d_M_block_72 (c_M_ask (blkS S k a b) hoB 0 40 (by omega) (by omega) (by omega) (by omega)) (fun U p71 o71 => ?_)
          have hA := AskM.base (blkS_wfM hw) p71
          refine j_aload_n (pc := 75) hC d_M_block_75 rfl ?_
          refine jm_calli0 (pc := 76) hC hG (cw_M_75 (by decide)) rfl d_M_block_76 (c_M_fits U o71) (fun z V p75 o75 => ?_)
          have hz := p75.q hA p71.sc.same
          have hz01 := p75.z
          have hSV := p71.sc.trans p75.sc
          refine j_if_eq (pc := 79) (tgt := 84) hC d_M_block_79 (by decide) (fun w79 => ?_) (fun w79 => ?_)
          · refine j_aload_n (pc := 84) hC d_M_block_84 rfl ?_
            refine jm_gf_shut (pc := 85) hC hG d_M_block_85 ?_
            refine j_iload_n (pc := 88) hC d_M_block_88 rfl ?_
            refine j_iconst (pc := 89) hC d_M_block_89 ?_
            refine jm_st_shut (pc := 90) hC hG d_M_block_90 ?_
            refine j_bipush (pc := 91) hC d_M_block_91 (by decide) ?_
            exact j_iret (pc := 93) hC d_M_block_93 (hp _ _ (Or.inr ⟨hab, k, hbf, Or.inr ⟨by omega, Or.inl ⟨rfl, by rcases hz with q | q; (omega); (exact q.2), V, hSV, rfl⟩⟩⟩))
          · refine j_iload_n (pc := 82) hC d_M_block_82 rfl ?_
            exact j_iret (pc := 83) hC d_M_block_83 (hp _ _ (Or.inr ⟨hab, k, hbf, Or.inr ⟨by omega, Or.inr ⟨rfl, by rcases hz with q | q; (exact q.2); (omega), V, hSV, rfl⟩⟩⟩))
        · exact False.elim (by omega)
      · refine j_iinc_3 (pc := 33) hC d_M_block_33 (by decide) ?_
        refine j_goto (pc := 36) (tgt := 19) hC d_M_block_36 (by decide) ?_
        exact ih (k + 1) (by omega) (by omega) (by omega) (fun i q1 q2 => by rcases (show i < k ∨ i = k by omega) with q | rfl; (exact hI i q1 q); omega)
theorem c_M_block (S : St) (ho : okM S) (hw : WfM S) (a b : Int) (a1 : -2147483648 ≤ a) (a2 : a ≤ 2147483647) (b1 : -2147483648 ≤ b) (b2 : b ≤ 2147483647) : Ct MW okM y_M_block b_M_block 4 (some .int) 3 [a, b] S (fun z u => blockM S a b z u) := by
  refine Ct.of (by decide) (Nat.le_of_ble_eq_true rfl) ho (fun X hW hk hC => ?_)
  have hG : GM X := ⟨hW, hk⟩
  replace hC : CX X R_M b_M_block 4 (some .int) 3 := hC
  show J X 4 (some .int) _ S 0 [some (.ref (gA X 0)), some (vI a), some (vI b), none] []
  refine j_iload_n (pc := 0) hC d_M_block_0 rfl ?_
  refine j_if_lt (pc := 1) (tgt := 15) hC d_M_block_1 (by decide) (fun w1 => ?_) (fun w1 => ?_)
  · refine j_iconst (pc := 15) hC d_M_block_15 ?_
    exact j_iret (pc := 16) hC d_M_block_16 (Or.inl ⟨fun h => by unfold blkOk at h; omega, rfl, rfl⟩)
  · refine j_iload_n (pc := 4) hC d_M_block_4 rfl ?_
    refine j_iload_n (pc := 5) hC d_M_block_5 rfl ?_
    refine j_icmp_ge (pc := 6) (tgt := 15) hC d_M_block_6 (by decide) (fun w6 => ?_) (fun w6 => ?_)
    · refine j_iconst (pc := 15) hC d_M_block_15 ?_
      exact j_iret (pc := 16) hC d_M_block_16 (Or.inl ⟨fun h => by unfold blkOk at h; omega, rfl, rfl⟩)
    · refine j_iload_n (pc := 9) hC d_M_block_9 rfl ?_
      refine j_bipush (pc := 10) hC d_M_block_10 (by decide) ?_
      refine j_icmp_le (pc := 12) (tgt := 17) hC d_M_block_12 (by decide) (fun w12 => ?_) (fun w12 => ?_)
      · refine j_iconst (pc := 17) hC d_M_block_17 ?_
        refine j_istore_3 (pc := 18) hC d_M_block_18 (by decide) ?_
        exact lp_M_block ho hw hC hG ⟨by omega, by omega, by omega⟩ (fun z u h => h) 10 0 (by omega) (by omega) (by omega) (fun i _ _ => by omega)
      · refine j_iconst (pc := 15) hC d_M_block_15 ?_
        exact j_iret (pc := 16) hC d_M_block_16 (Or.inl ⟨fun h => by unfold blkOk at h; omega, rfl, rfl⟩)
/-- earliestEnd() -/
def endM (S : St) (z : Int) : Prop := FQ S (BM S) (fun i => max (S 2 i) 0) (fun i => min (S 3 i) z)
theorem lp_M_earliestEnd (hC : CX X R_M b_M_earliestEnd 2 (some .int) 3) (hG : GM X) (hp : ∀ z u, ScM S u → ((0 ≤ z ∧ z ≤ 40 ∧ endM S z ∧ ∀ e, 0 ≤ e → e < z → ¬ endM S e) ∨ (z = 40 ∧ ∀ e, 0 ≤ e → e ≤ 40 → ¬ endM S e)) → post z u) : ∀ (n : Nat) (k : Int) (U : St), 0 ≤ k → k ≤ 41 → 41 - k < n → ScM S U → (∀ e, 0 ≤ e → e < k → ¬ endM S e) → J X 2 (some .int) post U 2 [some (.ref (gA X 0)), some (vI k)] [] := by
  intro n
  induction n with
  | zero => intro k U h1 h2 h3; omega
  | succ n ih =>
    intro k U h1 h2 h3 hs hI
    refine jm_ok hG (fun ho => ?_)
    refine j_iload_n (pc := 2) hC d_M_earliestEnd_2 rfl ?_
    refine j_bipush (pc := 3) hC d_M_earliestEnd_3 (by decide) ?_
    refine j_icmp_gt (pc := 5) (tgt := 29) hC d_M_earliestEnd_5 (by decide) (fun w5 => ?_) (fun w5 => ?_)
    · refine j_bipush (pc := 29) hC d_M_earliestEnd_29 (by decide) ?_
      exact j_iret (pc := 31) hC d_M_earliestEnd_31 (hp _ _ hs (Or.inr ⟨rfl, fun e e0 e1 => hI e e0 (by omega)⟩))
    · refine j_aload_n (pc := 8) hC d_M_earliestEnd_8 rfl ?_
      refine j_iconst (pc := 9) hC d_M_earliestEnd_9 ?_
      refine j_iload_n (pc := 10) hC d_M_earliestEnd_10 rfl ?_
      refine jm_callv2 (pc := 11) hC hG (cw_M_68 (by decide)) rfl d_M_earliestEnd_11 (c_M_ask U ho 0 k (by omega) (by omega) (by omega) (by omega)) (fun V p11 o11 => ?_)
      have hA : AskM V (BM S) (fun i => max (S 2 i) 0) (fun i => min (S 3 i) k) := (AskM.ask p11).congr hs.BM (fun i _ => by rw [hs.a 2, hs.a 3]; exact ⟨rfl, rfl⟩)
      have hSV := hs.trans p11.sc
      refine j_aload_n (pc := 14) hC d_M_earliestEnd_14 rfl ?_
      refine jm_calli0 (pc := 15) hC hG (cw_M_75 (by decide)) rfl d_M_earliestEnd_15 (c_M_fits V o11) (fun z W p15 o15 => ?_)
      have hz := p15.q hA hSV.same
      have hz01 := p15.z
      have hSW := hSV.trans p15.sc
      refine j_if_eq (pc := 18) (tgt := 23) hC d_M_earliestEnd_18 (by decide) (fun w18 => ?_) (fun w18 => ?_)
      · refine j_iinc_1 (pc := 23) hC d_M_earliestEnd_23 (by decide) ?_
        refine j_goto (pc := 26) (tgt := 2) hC d_M_earliestEnd_26 (by decide) ?_
        exact ih (k + 1) W (by omega) (by omega) (by omega) hSW (fun e e0 e1 q => by
          rcases (show e < k ∨ e = k by omega) with h | rfl
          · exact hI e e0 h q
          · rcases hz with h | h
            · omega
            · exact h.2 q)
      · refine j_iload_n (pc := 21) hC d_M_earliestEnd_21 rfl ?_
        exact j_iret (pc := 22) hC d_M_earliestEnd_22 (hp _ _ hSW (Or.inl ⟨h1, by omega, by rcases hz with h | h; (exact h.2); (omega), hI⟩))
theorem c_M_earliestEnd (S : St) (ho : okM S) : Ct MW okM y_M_earliestEnd b_M_earliestEnd 2 (some .int) 3 [] S (fun z u => ScM S u ∧ ((0 ≤ z ∧ z ≤ 40 ∧ endM S z ∧ ∀ e, 0 ≤ e → e < z → ¬ endM S e) ∨ (z = 40 ∧ ∀ e, 0 ≤ e → e ≤ 40 → ¬ endM S e))) := by
  refine Ct.of (by decide) (Nat.le_of_ble_eq_true rfl) ho (fun X hW hk hC => ?_)
  have hG : GM X := ⟨hW, hk⟩
  replace hC : CX X R_M b_M_earliestEnd 2 (some .int) 3 := hC
  show J X 2 (some .int) _ S 0 [some (.ref (gA X 0)), none] []
  refine j_iconst (pc := 0) hC d_M_earliestEnd_0 ?_
  refine j_istore_1 (pc := 1) hC d_M_earliestEnd_1 (by decide) ?_
  exact lp_M_earliestEnd hC hG (fun z u h1 h2 => ⟨h1, h2⟩) 50 0 S (by omega) (by omega) (by omega) (ScM.rf S) (fun e _ _ => by omega)
/-- latestBegin() -/
def begM (S : St) (z : Int) : Prop := FQ S (BM S) (fun i => max (S 2 i) z) (fun i => min (S 3 i) 40)
theorem lp_M_latestBegin (hC : CX X R_M b_M_latestBegin 2 (some .int) 3) (hG : GM X) (hp : ∀ z u, ScM S u → ((0 ≤ z ∧ z ≤ 40 ∧ begM S z ∧ ∀ e, z < e → e ≤ 40 → ¬ begM S e) ∨ (z = 0 ∧ ∀ e, 0 ≤ e → e ≤ 40 → ¬ begM S e)) → post z u) : ∀ (n : Nat) (k : Int) (U : St), -1 ≤ k → k ≤ 40 → k + 1 < n → ScM S U → (∀ e, k < e → e ≤ 40 → ¬ begM S e) → J X 2 (some .int) post U 3 [some (.ref (gA X 0)), some (vI k)] [] := by
  intro n
  induction n with
  | zero => intro k U h1 h2 h3; omega
  | succ n ih =>
    intro k U h1 h2 h3 hs hI
    refine jm_ok hG (fun ho => ?_)
    refine j_iload_n (pc := 3) hC d_M_latestBegin_3 rfl ?_
    refine j_if_lt (pc := 4) (tgt := 29) hC d_M_latestBegin_4 (by decide) (fun w4 => ?_) (fun w4 => ?_)
    · refine j_iconst (pc := 29) hC d_M_latestBegin_29 ?_
      exact j_iret (pc := 30) hC d_M_latestBegin_30 (hp _ _ hs (Or.inr ⟨rfl, fun e e0 e1 => hI e (by omega) e1⟩))
    · refine j_aload_n (pc := 7) hC d_M_latestBegin_7 rfl ?_
      refine j_iload_n (pc := 8) hC d_M_latestBegin_8 rfl ?_
      refine j_bipush (pc := 9) hC d_M_latestBegin_9 (by decide) ?_
      refine jm_callv2 (pc := 11) hC hG (cw_M_68 (by decide)) rfl d_M_latestBegin_11 (c_M_ask U ho k 40 (by omega) (by omega) (by omega) (by omega)) (fun V p11 o11 => ?_)
      have hA : AskM V (BM S) (fun i => max (S 2 i) k) (fun i => min (S 3 i) 40) := (AskM.ask p11).congr hs.BM (fun i _ => by rw [hs.a 2, hs.a 3]; exact ⟨rfl, rfl⟩)
      have hSV := hs.trans p11.sc
      refine j_aload_n (pc := 14) hC d_M_latestBegin_14 rfl ?_
      refine jm_calli0 (pc := 15) hC hG (cw_M_75 (by decide)) rfl d_M_latestBegin_15 (c_M_fits V o11) (fun z W p15 o15 => ?_)
      have hz := p15.q hA hSV.same
      have hz01 := p15.z
      have hSW := hSV.trans p15.sc
      refine j_if_eq (pc := 18) (tgt := 23) hC d_M_latestBegin_18 (by decide) (fun w18 => ?_) (fun w18 => ?_)
      · refine j_iinc_1 (pc := 23) hC d_M_latestBegin_23 (by decide) ?_
        refine j_goto (pc := 26) (tgt := 3) hC d_M_latestBegin_26 (by decide) ?_
        exact ih (k + -1) W (by omega) (by omega) (by omega) hSW (fun e e0 e1 q => by
          rcases (show k < e ∨ e = k by omega) with h | rfl
          · exact hI e h e1 q
          · rcases hz with h | h
            · omega
            · exact h.2 q)
      · refine j_iload_n (pc := 21) hC d_M_latestBegin_21 rfl ?_
        exact j_iret (pc := 22) hC d_M_latestBegin_22 (hp _ _ hSW (Or.inl ⟨by omega, by omega, by rcases hz with h | h; (exact h.2); (omega), hI⟩))
theorem c_M_latestBegin (S : St) (ho : okM S) : Ct MW okM y_M_latestBegin b_M_latestBegin 2 (some .int) 3 [] S (fun z u => ScM S u ∧ ((0 ≤ z ∧ z ≤ 40 ∧ begM S z ∧ ∀ e, z < e → e ≤ 40 → ¬ begM S e) ∨ (z = 0 ∧ ∀ e, 0 ≤ e → e ≤ 40 → ¬ begM S e))) := by
  refine Ct.of (by decide) (Nat.le_of_ble_eq_true rfl) ho (fun X hW hk hC => ?_)
  have hG : GM X := ⟨hW, hk⟩
  replace hC : CX X R_M b_M_latestBegin 2 (some .int) 3 := hC
  show J X 2 (some .int) _ S 0 [some (.ref (gA X 0)), none] []
  refine j_bipush (pc := 0) hC d_M_latestBegin_0 (by decide) ?_
  refine j_istore_1 (pc := 2) hC d_M_latestBegin_2 (by decide) ?_
  exact lp_M_latestBegin hC hG (fun z u h1 h2 => ⟨h1, h2⟩) 50 40 S (by omega) (by omega) (by omega) (ScM.rf S) (fun e _ _ => by omega)
/-- open(t) -/
theorem c_M_open (S : St) (ho : okM S) (hw : WfM S) (t : Int) (t1 : -2147483648 ≤ t) (t2 : t ≤ 2147483647) : Ct MW okM y_M_open b_M_open 2 (some .boolean) 3 [t] S (fun z u => ScM S u ∧ ((z = 1 ∧ 0 ≤ t ∧ t + S 0 0 ≤ 40 ∧ FXM S 6 t (t + S 0 0)) ∨ (z = 0 ∧ ¬ (0 ≤ t ∧ t + S 0 0 ≤ 40 ∧ FXM S 6 t (t + S 0 0))))) := by
  refine Ct.of (by decide) (Nat.le_of_ble_eq_true rfl) ho (fun X hW hk hC => ?_)
  have hG : GM X := ⟨hW, hk⟩
  replace hC : CX X R_M b_M_open 2 (some .boolean) 3 := hC
  show J X 2 (some .boolean) _ S 0 [some (.ref (gA X 0)), some (vI t)] []
  have hb0 := ho.1
  refine j_iload_n (pc := 0) hC d_M_open_0 rfl ?_
  refine j_if_lt (pc := 1) (tgt := 21) hC d_M_open_1 (by decide) (fun w1 => ?_) (fun w1 => ?_)
  · refine j_iconst (pc := 21) hC d_M_open_21 ?_
    exact j_zret (pc := 22) hC d_M_open_22 (⟨ScM.rf S, Or.inr ⟨rfl, by omega⟩⟩)
  · refine j_iload_n (pc := 4) hC d_M_open_4 rfl ?_
    refine j_bipush (pc := 5) hC d_M_open_5 (by decide) ?_
    refine j_icmp_gt (pc := 7) (tgt := 21) hC d_M_open_7 (by decide) (fun w7 => ?_) (fun w7 => ?_)
    · refine j_iconst (pc := 21) hC d_M_open_21 ?_
      exact j_zret (pc := 22) hC d_M_open_22 (⟨ScM.rf S, Or.inr ⟨rfl, by omega⟩⟩)
    · refine j_iload_n (pc := 10) hC d_M_open_10 rfl ?_
      refine j_aload_n (pc := 11) hC d_M_open_11 rfl ?_
      refine jm_gf_len (pc := 12) hC hG d_M_open_12 (fun l12 u12 => ?_)
      refine j_iadd (pc := 15) hC d_M_open_15 ?_
      refine j_bipush (pc := 16) hC d_M_open_16 (by decide) ?_
      refine j_icmp_le (pc := 18) (tgt := 23) hC d_M_open_18 (by decide) (fun w18 => ?_) (fun w18 => ?_)
      · refine j_aload_n (pc := 23) hC d_M_open_23 rfl ?_
        refine j_iconst (pc := 24) hC d_M_open_24 ?_
        refine j_bipush (pc := 25) hC d_M_open_25 (by decide) ?_
        refine jm_callv2 (pc := 27) hC hG (cw_M_68 (by decide)) rfl d_M_open_27 (c_M_ask S ho 0 40 (by omega) (by omega) (by omega) (by omega)) (fun U p27 o27 => ?_)
        have e00 := p27.sc.f 0
        have hA := (AskM.base hw p27).win (j := 6) (by omega) (by omega) t (t + S 0 0)
        have hS := p27.sc.trans (winS.sc U 6 t (t + S 0 0))
        refine j_aload_n (pc := 30) hC d_M_open_30 rfl ?_
        refine j_bipush (pc := 31) hC d_M_open_31 (by decide) ?_
        refine j_iload_n (pc := 33) hC d_M_open_33 rfl ?_
        refine j_iload_n (pc := 34) hC d_M_open_34 rfl ?_
        refine j_aload_n (pc := 35) hC d_M_open_35 rfl ?_
        refine jm_gf_len (pc := 36) hC hG d_M_open_36 (fun l36 u36 => ?_)
        refine j_iadd (pc := 39) hC d_M_open_39 ?_
        refine jm_callv3 (pc := 40) hC hG (cw_M_71 (by decide)) rfl d_M_open_40 (c_M_window U o27 6 t (t + U 0 0) (by omega) (by omega) (by omega) (by omega) (by omega) (by omega)) (fun S40 p40 o40 => ?_)
        refine J.eqs p40 ?_
        rw [e00] at p40
        rw [p40] at o40
        rw [e00]
        refine j_aload_n (pc := 43) hC d_M_open_43 rfl ?_
        refine jm_calli0 (pc := 44) hC hG (cw_M_75 (by decide)) rfl d_M_open_44 (c_M_fits _ o40) (fun z V p44 o44 => ?_)
        have hz := p44.q hA hS.same
        have hz01 := p44.z
        have hSV := hS.trans p44.sc
        exact j_zret (pc := 47) hC d_M_open_47 (⟨hSV, by rcases hz with ⟨q1, q2⟩ | ⟨q1, q2⟩; (exact Or.inl ⟨q1, by omega, by omega, q2⟩); (exact Or.inr ⟨q1, fun q => q2 q.2.2⟩)⟩)
      · refine j_iconst (pc := 21) hC d_M_open_21 ?_
        exact j_zret (pc := 22) hC d_M_open_22 (⟨ScM.rf S, Or.inr ⟨rfl, by omega⟩⟩)
end TopM
end
section
-- THE MODEL: earliestStart(id), latestStart(id), plannedStart(id)
def gR (F pl : Int → Int) (pins : Int) : Int → Int := fun i => if i < pins then pl i else F i
def gD (D pl : Int → Int) (p pins : Int) : Int → Int := fun i => if i < pins then pl i + p else D i
/-- job id pinned to s, jobs below pins to pl -/
def FEg (S : St) (P : Int → Prop) (pl : Int → Int) (pins id s : Int) : Prop := FQ S P (updI (gR (S 2) pl pins) id s) (updI (gD (S 3) pl (S 0 0) pins) id (s + S 0 0))
def earlG (S : St) (P : Int → Prop) (pl : Int → Int) (pins id z : Int) : Prop := S 2 id ≤ z ∧ z + S 0 0 ≤ S 3 id ∧ FEg S P pl pins id z ∧ ∀ m, S 2 id ≤ m → m < z → ¬ FEg S P pl pins id m
theorem earlQ_G {S : St} {pins id z : Int} : earlQ S pins id z ↔ earlG S (BS S) (S 11) pins id z := Iff.rfl
theorem gR_0 {F pl : Int → Int} {i : Int} (h : 0 ≤ i) : gR F pl 0 i = F i := if_neg (by omega)
theorem gD_0 {F pl : Int → Int} {p i : Int} (h : 0 ≤ i) : gD F pl p 0 i = F i := if_neg (by omega)
/-- all but job id is asked about as pl says -/
def AskB (S U : St) (pl : Int → Int) (pins id : Int) : Prop := (∀ i, bits (U 0 2) i ↔ BM S i) ∧ ∀ i, BM S i → i ≠ id → U 7 i = gR (S 2) pl pins i ∧ U 8 i = gD (S 3) pl (S 0 0) pins i
theorem AskB.win {S U : St} {pl : Int → Int} {pins id : Int} (h : AskB S U pl pins id) (hid : BM S id) (s : Int) : AskM (winS U id s (s + S 0 0)) (BM S) (updI (gR (S 2) pl pins) id s) (updI (gD (S 3) pl (S 0 0) pins) id (s + S 0 0)) := by
  refine ⟨fun i => ?_, fun i hi => ?_⟩
  · unfold bits
    rw [winS_0, hb_or]
    constructor
    · rintro ⟨q1, q2, q3 | q3⟩
      · exact (h.1 i).mp ⟨q1, q2, q3⟩
      · rw [← (hb_pw hid.1 q1).mp q3]; exact hid
    · intro q
      obtain ⟨a, b, c⟩ := (h.1 i).mpr q
      exact ⟨a, b, Or.inl c⟩
  · rw [winS_7, winS_8]
    by_cases e : i = id
    · rw [if_pos e, if_pos e, e, updI_eq, updI_eq]; exact ⟨rfl, rfl⟩
    · rw [if_neg e, if_neg e, updI_ne e, updI_ne e]
      exact h.2 i hi e
theorem AskM.toB {S U : St} {pl : Int → Int} {pins id s : Int} (h : AskM U (BM S) (updI (gR (S 2) pl pins) id s) (updI (gD (S 3) pl (S 0 0) pins) id (s + S 0 0))) : AskB S U pl pins id :=
  ⟨h.1, fun i hi e => by have := h.2 i hi; rw [updI_ne e, updI_ne e] at this; exact this⟩
theorem AskM.toB0 {S U : St} {id : Int} (pl : Int → Int) (h : AskM U (BM S) (S 2) (S 3)) : AskB S U pl 0 id :=
  ⟨h.1, fun i hi _ => by rw [gR_0 hi.1, gD_0 hi.1]; exact h.2 i hi⟩
section SearchM
variable {X : Cx} {S : St} {post : Int → St → Prop}
theorem lp_M_earliestStart {id : Int} (hoS : okM S) (hw : WfM S) (hid : BM S id) (hC : CX X R_M b_M_earliestStart 3 (some .int) 3) (hG : GM X) (hp : ∀ z u, ScM S u → (earlG S (BM S) (S 11) 0 id z ∨ (z = -1 ∧ ∀ m, S 2 id ≤ m → m + S 0 0 ≤ S 3 id → ¬ FEg S (BM S) (S 11) 0 id m)) → post z u) : ∀ (n : Nat) (s : Int) (U : St), S 2 id ≤ s → s + S 0 0 ≤ S 3 id + 1 → S 3 id + 1 - (s + S 0 0) < n → ScM S U → AskB S U (S 11) 0 id → (∀ m, S 2 id ≤ m → m < s → ¬ FEg S (BM S) (S 11) 0 id m) → J X 3 (some .int) post U 24 [some (.ref (gA X 0)), some (vI id), some (vI s)] [] := by
  intro n
  induction n with
  | zero => intro s U h1 h2 h3; omega
  | succ n ih =>
    intro s U h1 h2 h3 hs hB hI
    refine jm_ok hG (fun ho => ?_)
    have hwi := hw id hid
    have hb0 := hoS.1
    have hi1 := hid.1
    have hi2 := hid.2.1
    have e0 := hs.f 0
    have e3 := hs.a 3 id
    refine j_iload_n (pc := 24) hC d_M_earliestStart_24 rfl ?_
    refine j_aload_n (pc := 25) hC d_M_earliestStart_25 rfl ?_
    refine jm_gf_len (pc := 26) hC hG d_M_earliestStart_26 (fun l26 u26 => ?_)
    refine j_iadd (pc := 29) hC d_M_earliestStart_29 ?_
    refine j_aload_n (pc := 30) hC d_M_earliestStart_30 rfl ?_
    refine jm_gf_dead (pc := 31) hC hG d_M_earliestStart_31 ?_
    refine j_iload_n (pc := 34) hC d_M_earliestStart_34 rfl ?_
    refine jm_ld_dead (pc := 35) hC hG d_M_earliestStart_35 (fun l35 u35 => ?_)
    refine j_icmp_gt (pc := 36) (tgt := 66) hC d_M_earliestStart_36 (by decide) (fun w36 => ?_) (fun w36 => ?_)
    · refine j_iconst (pc := 66) hC d_M_earliestStart_66 ?_
      exact j_iret (pc := 67) hC d_M_earliestStart_67 (hp _ _ hs (Or.inr ⟨rfl, fun m m0 m1 => hI m m0 (by omega)⟩))
    · refine j_aload_n (pc := 39) hC d_M_earliestStart_39 rfl ?_
      refine j_iload_n (pc := 40) hC d_M_earliestStart_40 rfl ?_
      refine j_iload_n (pc := 41) hC d_M_earliestStart_41 rfl ?_
      refine j_iload_n (pc := 42) hC d_M_earliestStart_42 rfl ?_
      refine j_aload_n (pc := 43) hC d_M_earliestStart_43 rfl ?_
      refine jm_gf_len (pc := 44) hC hG d_M_earliestStart_44 (fun l44 u44 => ?_)
      refine j_iadd (pc := 47) hC d_M_earliestStart_47 ?_
      refine jm_callv3 (pc := 48) hC hG (cw_M_71 (by decide)) rfl d_M_earliestStart_48 (c_M_window U ho id s (s + U 0 0) (by omega) (by omega) (by omega) (by omega) (by omega) (by omega)) (fun S48 p48 o48 => ?_)
      refine J.eqs p48 ?_
      rw [e0] at p48
      rw [p48] at o48
      rw [e0]
      have hA := hB.win hid s
      have hSW := hs.trans (winS.sc U id s (s + S 0 0))
      refine j_aload_n (pc := 51) hC d_M_earliestStart_51 rfl ?_
      refine jm_calli0 (pc := 52) hC hG (cw_M_75 (by decide)) rfl d_M_earliestStart_52 (c_M_fits _ o48) (fun z V p52 o52 => ?_)
      have hz := p52.q hA hSW.same
      have hz01 := p52.z
      have hSV := hSW.trans p52.sc
      refine j_if_eq (pc := 55) (tgt := 60) hC d_M_earliestStart_55 (by decide) (fun w55 => ?_) (fun w55 => ?_)
      · refine j_iinc_2 (pc := 60) hC d_M_earliestStart_60 (by decide) ?_
        refine j_goto (pc := 63) (tgt := 24) hC d_M_earliestStart_63 (by decide) ?_
        exact ih (s + 1) V (by omega) (by omega) (by omega) hSV (hA.keep p52).toB (fun m m0 m1 q => by
          rcases (show m < s ∨ m = s by omega) with h | rfl
          · exact hI m m0 h q
          · rcases hz with h | h
            · omega
            · exact h.2 q)
      · refine j_iload_n (pc := 58) hC d_M_earliestStart_58 rfl ?_
        exact j_iret (pc := 59) hC d_M_earliestStart_59 (hp _ _ hSV (Or.inl ⟨h1, by omega, by rcases hz with h | h; (exact h.2); (omega), hI⟩))
theorem c_M_earliestStart (S : St) (ho : okM S) (hw : WfM S) (id : Int) (i1 : -2147483648 ≤ id) (i2 : id ≤ 2147483647) : Ct MW okM y_M_earliestStart b_M_earliestStart 3 (some .int) 3 [id] S (fun z u => (¬ thereId S id ∧ z = -1 ∧ u = S) ∨ (thereId S id ∧ ScM S u ∧ (earlG S (BM S) (S 11) 0 id z ∨ (z = -1 ∧ ∀ m, S 2 id ≤ m → m + S 0 0 ≤ S 3 id → ¬ FEg S (BM S) (S 11) 0 id m)))) := by
  refine Ct.of (by decide) (Nat.le_of_ble_eq_true rfl) ho (fun X hW hk hC => ?_)
  have hG : GM X := ⟨hW, hk⟩
  replace hC : CX X R_M b_M_earliestStart 3 (some .int) 3 := hC
  show J X 3 (some .int) _ S 0 [some (.ref (gA X 0)), some (vI id), none] []
  refine j_aload_n (pc := 0) hC d_M_earliestStart_0 rfl ?_
  refine j_iload_n (pc := 1) hC d_M_earliestStart_1 rfl ?_
  refine jm_calli1 (pc := 2) hC hG (cw_M_79 (by decide)) rfl d_M_earliestStart_2 (c_M_there S ho id i1 i2) (fun zh S2 p2 o2 => ?_)
  refine J.eqs p2.1 ?_
  replace p2 := p2.2
  have hzh : zh = 0 ∨ zh = 1 := by rcases p2 with q | q; (right; exact q.1); (left; exact q.1)
  refine j_if_ne (pc := 5) (tgt := 10) hC d_M_earliestStart_5 (by decide) (fun w5 => ?_) (fun w5 => ?_)
  · have hh : thereId S id := by rcases p2 with q | q; (exact q.2); (omega)
    have hwi := hw id hh
    have hb0 := ho.1
    have hi1 := hh.1
    have hi2 := hh.2.1
    refine j_aload_n (pc := 10) hC d_M_earliestStart_10 rfl ?_
    refine j_iconst (pc := 11) hC d_M_earliestStart_11 ?_
    refine j_bipush (pc := 12) hC d_M_earliestStart_12 (by decide) ?_
    refine jm_callv2 (pc := 14) hC hG (cw_M_68 (by decide)) rfl d_M_earliestStart_14 (c_M_ask S ho 0 40 (by omega) (by omega) (by omega) (by omega)) (fun U p14 o14 => ?_)
    have e2 := p14.sc.a 2 id
    refine j_aload_n (pc := 17) hC d_M_earliestStart_17 rfl ?_
    refine jm_gf_rel (pc := 18) hC hG d_M_earliestStart_18 ?_
    refine j_iload_n (pc := 21) hC d_M_earliestStart_21 rfl ?_
    refine jm_ld_rel (pc := 22) hC hG d_M_earliestStart_22 (fun l22 u22 => ?_)
    refine j_istore_2 (pc := 23) hC d_M_earliestStart_23 (by decide) ?_
    rw [e2]
    exact lp_M_earliestStart ho hw hh hC hG (fun z u h1 h2 => Or.inr ⟨hh, h1, h2⟩) 60 (S 2 id) U (by omega) (by omega) (by omega) p14.sc ((AskM.base hw p14).toB0 _) (fun m _ _ => by omega)
  · refine j_iconst (pc := 8) hC d_M_earliestStart_8 ?_
    exact j_iret (pc := 9) hC d_M_earliestStart_9 (Or.inl ⟨by rcases p2 with q | q; (omega); (exact q.2), rfl, rfl⟩)
theorem lp_M_latestStart {id : Int} (hoS : okM S) (hw : WfM S) (hid : BM S id) (hC : CX X R_M b_M_latestStart 3 (some .int) 3) (hG : GM X) (hp : ∀ z u, ScM S u → ((S 2 id ≤ z ∧ z + S 0 0 ≤ S 3 id ∧ FEg S (BM S) (S 11) 0 id z ∧ ∀ m, z < m → m + S 0 0 ≤ S 3 id → ¬ FEg S (BM S) (S 11) 0 id m) ∨ (z = -1 ∧ ∀ m, S 2 id ≤ m → m + S 0 0 ≤ S 3 id → ¬ FEg S (BM S) (S 11) 0 id m)) → post z u) : ∀ (n : Nat) (s : Int) (U : St), S 2 id ≤ s + 1 → s + S 0 0 ≤ S 3 id → s + 1 - S 2 id < n → ScM S U → AskB S U (S 11) 0 id → (∀ m, s < m → m + S 0 0 ≤ S 3 id → ¬ FEg S (BM S) (S 11) 0 id m) → J X 3 (some .int) post U 29 [some (.ref (gA X 0)), some (vI id), some (vI s)] [] := by
  intro n
  induction n with
  | zero => intro s U h1 h2 h3; omega
  | succ n ih =>
    intro s U h1 h2 h3 hs hB hI
    refine jm_ok hG (fun ho => ?_)
    have hwi := hw id hid
    have hb0 := hoS.1
    have hi1 := hid.1
    have hi2 := hid.2.1
    have e0 := hs.f 0
    have e2 := hs.a 2 id
    refine j_iload_n (pc := 29) hC d_M_latestStart_29 rfl ?_
    refine j_aload_n (pc := 30) hC d_M_latestStart_30 rfl ?_
    refine jm_gf_rel (pc := 31) hC hG d_M_latestStart_31 ?_
    refine j_iload_n (pc := 34) hC d_M_latestStart_34 rfl ?_
    refine jm_ld_rel (pc := 35) hC hG d_M_latestStart_35 (fun l35 u35 => ?_)
    refine j_icmp_lt (pc := 36) (tgt := 66) hC d_M_latestStart_36 (by decide) (fun w36 => ?_) (fun w36 => ?_)
    · refine j_iconst (pc := 66) hC d_M_latestStart_66 ?_
      exact j_iret (pc := 67) hC d_M_latestStart_67 (hp _ _ hs (Or.inr ⟨rfl, fun m m0 m1 => hI m (by omega) m1⟩))
    · refine j_aload_n (pc := 39) hC d_M_latestStart_39 rfl ?_
      refine j_iload_n (pc := 40) hC d_M_latestStart_40 rfl ?_
      refine j_iload_n (pc := 41) hC d_M_latestStart_41 rfl ?_
      refine j_iload_n (pc := 42) hC d_M_latestStart_42 rfl ?_
      refine j_aload_n (pc := 43) hC d_M_latestStart_43 rfl ?_
      refine jm_gf_len (pc := 44) hC hG d_M_latestStart_44 (fun l44 u44 => ?_)
      refine j_iadd (pc := 47) hC d_M_latestStart_47 ?_
      refine jm_callv3 (pc := 48) hC hG (cw_M_71 (by decide)) rfl d_M_latestStart_48 (c_M_window U ho id s (s + U 0 0) (by omega) (by omega) (by omega) (by omega) (by omega) (by omega)) (fun S48 p48 o48 => ?_)
      refine J.eqs p48 ?_
      rw [e0] at p48
      rw [p48] at o48
      rw [e0]
      have hA := hB.win hid s
      have hSW := hs.trans (winS.sc U id s (s + S 0 0))
      refine j_aload_n (pc := 51) hC d_M_latestStart_51 rfl ?_
      refine jm_calli0 (pc := 52) hC hG (cw_M_75 (by decide)) rfl d_M_latestStart_52 (c_M_fits _ o48) (fun z V p52 o52 => ?_)
      have hz := p52.q hA hSW.same
      have hz01 := p52.z
      have hSV := hSW.trans p52.sc
      refine j_if_eq (pc := 55) (tgt := 60) hC d_M_latestStart_55 (by decide) (fun w55 => ?_) (fun w55 => ?_)
      · refine j_iinc_2 (pc := 60) hC d_M_latestStart_60 (by decide) ?_
        refine j_goto (pc := 63) (tgt := 29) hC d_M_latestStart_63 (by decide) ?_
        exact ih (s + -1) V (by omega) (by omega) (by omega) hSV (hA.keep p52).toB (fun m m0 m1 q => by
          rcases (show s < m ∨ m = s by omega) with h | rfl
          · exact hI m h m1 q
          · rcases hz with h | h
            · omega
            · exact h.2 q)
      · refine j_iload_n (pc := 58) hC d_M_latestStart_58 rfl ?_
        exact j_iret (pc := 59) hC d_M_latestStart_59 (hp _ _ hSV (Or.inl ⟨by omega, by omega, by rcases hz with h | h; (exact h.2); (omega), hI⟩))
theorem c_M_latestStart (S : St) (ho : okM S) (hw : WfM S) (id : Int) (i1 : -2147483648 ≤ id) (i2 : id ≤ 2147483647) : Ct MW okM y_M_latestStart b_M_latestStart 3 (some .int) 3 [id] S (fun z u => (¬ thereId S id ∧ z = -1 ∧ u = S) ∨ (thereId S id ∧ ScM S u ∧ ((S 2 id ≤ z ∧ z + S 0 0 ≤ S 3 id ∧ FEg S (BM S) (S 11) 0 id z ∧ ∀ m, z < m → m + S 0 0 ≤ S 3 id → ¬ FEg S (BM S) (S 11) 0 id m) ∨ (z = -1 ∧ ∀ m, S 2 id ≤ m → m + S 0 0 ≤ S 3 id → ¬ FEg S (BM S) (S 11) 0 id m)))) := by
  refine Ct.of (by decide) (Nat.le_of_ble_eq_true rfl) ho (fun X hW hk hC => ?_)
  have hG : GM X := ⟨hW, hk⟩
  replace hC : CX X R_M b_M_latestStart 3 (some .int) 3 := hC
  show J X 3 (some .int) _ S 0 [some (.ref (gA X 0)), some (vI id), none] []
  refine j_aload_n (pc := 0) hC d_M_latestStart_0 rfl ?_
  refine j_iload_n (pc := 1) hC d_M_latestStart_1 rfl ?_
  refine jm_calli1 (pc := 2) hC hG (cw_M_79 (by decide)) rfl d_M_latestStart_2 (c_M_there S ho id i1 i2) (fun zh S2 p2 o2 => ?_)
  refine J.eqs p2.1 ?_
  replace p2 := p2.2
  have hzh : zh = 0 ∨ zh = 1 := by rcases p2 with q | q; (right; exact q.1); (left; exact q.1)
  refine j_if_ne (pc := 5) (tgt := 10) hC d_M_latestStart_5 (by decide) (fun w5 => ?_) (fun w5 => ?_)
  · have hh : thereId S id := by rcases p2 with q | q; (exact q.2); (omega)
    have hwi := hw id hh
    have hb0 := ho.1
    have hi1 := hh.1
    have hi2 := hh.2.1
    refine j_aload_n (pc := 10) hC d_M_latestStart_10 rfl ?_
    refine j_iconst (pc := 11) hC d_M_latestStart_11 ?_
    refine j_bipush (pc := 12) hC d_M_latestStart_12 (by decide) ?_
    refine jm_callv2 (pc := 14) hC hG (cw_M_68 (by decide)) rfl d_M_latestStart_14 (c_M_ask S ho 0 40 (by omega) (by omega) (by omega) (by omega)) (fun U p14 o14 => ?_)
    have e3 := p14.sc.a 3 id
    have e0 := p14.sc.f 0
    refine j_aload_n (pc := 17) hC d_M_latestStart_17 rfl ?_
    refine jm_gf_dead (pc := 18) hC hG d_M_latestStart_18 ?_
    refine j_iload_n (pc := 21) hC d_M_latestStart_21 rfl ?_
    refine jm_ld_dead (pc := 22) hC hG d_M_latestStart_22 (fun l22 u22 => ?_)
    refine j_aload_n (pc := 23) hC d_M_latestStart_23 rfl ?_
    refine jm_gf_len (pc := 24) hC hG d_M_latestStart_24 (fun l24 u24 => ?_)
    refine j_isub (pc := 27) hC d_M_latestStart_27 ?_
    refine j_istore_2 (pc := 28) hC d_M_latestStart_28 (by decide) ?_
    rw [e3, e0]
    exact lp_M_latestStart ho hw hh hC hG (fun z u h1 h2 => Or.inr ⟨hh, h1, h2⟩) 60 (S 3 id - S 0 0) U (by omega) (by omega) (by omega) p14.sc ((AskM.base hw p14).toB0 _) (fun m _ _ => by omega)
  · refine j_iconst (pc := 8) hC d_M_latestStart_8 ?_
    exact j_iret (pc := 9) hC d_M_latestStart_9 (Or.inl ⟨by rcases p2 with q | q; (omega); (exact q.2), rfl, rfl⟩)
/-- plannedStart(id) -/
def plI (S U : St) (pl : Int → Int) (k : Int) : Prop := ScM S U ∧ AskM U (BM S) (gR (S 2) pl k) (gD (S 3) pl (S 0 0) k) ∧ (∀ i, BM S i → i < k → earlG S (BM S) pl i i (pl i)) ∧ FQ S (BM S) (gR (S 2) pl k) (gD (S 3) pl (S 0 0) k)
theorem g_ne {F pl : Int → Int} {k i : Int} (e : i ≠ k) : gR F pl (k + 1) i = gR F pl k i := by
  unfold gR
  by_cases q : i < k
  · rw [if_pos q, if_pos (by omega)]
  · rw [if_neg q, if_neg (by omega)]
theorem gd_ne {D pl : Int → Int} {p k i : Int} (e : i ≠ k) : gD D pl p (k + 1) i = gD D pl p k i := by
  unfold gD
  by_cases q : i < k
  · rw [if_pos q, if_pos (by omega)]
  · rw [if_neg q, if_neg (by omega)]
theorem pl_skip {U : St} {pl : Int → Int} {k : Int} (h : plI S U pl k) (q : ¬ BM S k) : plI S U pl (k + 1) := by
  obtain ⟨h1, h2, h3, h4⟩ := h
  have hne : ∀ i, BM S i → i ≠ k := fun i hi e => q (e ▸ hi)
  have hc : ∀ i, BM S i → gR (S 2) pl k i = gR (S 2) pl (k + 1) i ∧ gD (S 3) pl (S 0 0) k i = gD (S 3) pl (S 0 0) (k + 1) i := fun i hi => ⟨(g_ne (hne i hi)).symm, (gd_ne (hne i hi)).symm⟩
  exact ⟨h1, h2.congr (fun _ => Iff.rfl) hc, fun i hi hk => h3 i hi (by have := hne i hi; omega), (FQ_iff (fun _ => Iff.rfl) hc).mp h4⟩
theorem pl_B {U : St} {pl : Int → Int} {k : Int} (h : plI S U pl k) : AskB S U pl k k := ⟨h.2.1.1, fun i hi _ => h.2.1.2 i hi⟩
theorem pl_ex {U : St} {pl : Int → Int} {k : Int} (h : plI S U pl k) (hk : BM S k) : ∃ m, S 2 k ≤ m ∧ m + S 0 0 ≤ S 3 k ∧ FEg S (BM S) pl k k m := by
  obtain ⟨f, h1, h2⟩ := h.2.2.2
  have hi := h1 k hk
  unfold gR gD at hi
  rw [if_neg (by omega), if_neg (by omega)] at hi
  refine ⟨f k, hi.1, hi.2.1, f, fun i hb => ?_, h2⟩
  have := h1 i hb
  by_cases q : i = k
  · rw [q, updI_eq, updI_eq]; rw [q] at this; exact ⟨Int.le_refl _, Int.le_refl _, this.2.2⟩
  · rw [updI_ne q, updI_ne q]; exact this
theorem earlG_congr {P : Int → Prop} {pl pl' : Int → Int} {pins id z : Int} (h : ∀ i, i < pins → pl' i = pl i) (hq : earlG S P pl pins id z) : earlG S P pl' pins id z := by
  have e1 : gR (S 2) pl' pins = gR (S 2) pl pins := funext (fun i => by
    unfold gR
    by_cases q : i < pins
    · rw [if_pos q, if_pos q, h i q]
    · rw [if_neg q, if_neg q])
  have e2 : gD (S 3) pl' (S 0 0) pins = gD (S 3) pl (S 0 0) pins := funext (fun i => by
    unfold gD
    by_cases q : i < pins
    · rw [if_pos q, if_pos q, h i q]
    · rw [if_neg q, if_neg q])
  unfold earlG FEg at hq ⊢
  rw [e1, e2]
  exact hq
theorem pl_take {U V : St} {pl : Int → Int} {k s : Int} (h : plI S U pl k) (hk : BM S k) (hs : ScM S V) (hA : AskM V (BM S) (updI (gR (S 2) pl k) k s) (updI (gD (S 3) pl (S 0 0) k) k (s + S 0 0))) (hq : earlG S (BM S) pl k k s) : plI S V (updI pl k s) (k + 1) := by
  obtain ⟨h1, h2, h3, h4⟩ := h
  have hc : ∀ i, BM S i → updI (gR (S 2) pl k) k s i = gR (S 2) (updI pl k s) (k + 1) i ∧ updI (gD (S 3) pl (S 0 0) k) k (s + S 0 0) i = gD (S 3) (updI pl k s) (S 0 0) (k + 1) i := by
    intro i hi
    by_cases e : i = k
    · rw [e, updI_eq, updI_eq]
      unfold gR gD
      rw [if_pos (by omega), if_pos (by omega), updI_eq]; exact ⟨rfl, rfl⟩
    · rw [updI_ne (F := gR (S 2) pl k) e, updI_ne (F := gD (S 3) pl (S 0 0) k) e]
      unfold gR gD
      by_cases q : i < k
      · rw [if_pos q, if_pos q, if_pos (by omega), if_pos (by omega), updI_ne (F := pl) e]; exact ⟨rfl, rfl⟩
      · rw [if_neg q, if_neg q, if_neg (by omega), if_neg (by omega)]; exact ⟨rfl, rfl⟩
  refine ⟨hs, hA.congr (fun _ => Iff.rfl) hc, fun i hi hik => ?_, (FQ_iff (fun _ => Iff.rfl) hc).mp hq.2.2.1⟩
  by_cases e : i = k
  · rw [e, updI_eq]
    exact earlG_congr (fun j q => updI_ne (by omega)) hq
  · rw [updI_ne e]
    exact earlG_congr (fun j q => updI_ne (by omega)) (h3 i hi (by omega))
def plQ (S : St) (id z : Int) : Prop := ∃ pl : Int → Int, (∀ i, BM S i → i ≤ id → earlG S (BM S) pl i i (pl i)) ∧ z = pl id
theorem lp_M_planned2 {id k : Int} {pl : Int → Int} {U0 : St} (hoS : okM S) (hw : WfM S) (hk : BM S k) (h0 : plI S U0 pl k) (hC : CX X R_M b_M_plannedStart 5 (some .int) 3) (hG : GM X) (hp : ∀ s U, ScM S U → AskM U (BM S) (updI (gR (S 2) pl k) k s) (updI (gD (S 3) pl (S 0 0) k) k (s + S 0 0)) → earlG S (BM S) pl k k s → J X 5 (some .int) post U 98 [some (.ref (gA X 0)), some (vI id), some (vI s), some (vI k), none] []) : ∀ (n : Nat) (more s : Int) (U : St), 0 ≤ more → s = S 2 k + more → more ≤ 40 → 40 - more < n → ScM S U → AskM U (BM S) (updI (gR (S 2) pl k) k s) (updI (gD (S 3) pl (S 0 0) k) k (s + S 0 0)) → (∀ m, S 2 k ≤ m → m < s → ¬ FEg S (BM S) pl k k m) → J X 5 (some .int) post U 63 [some (.ref (gA X 0)), some (vI id), some (vI s), some (vI k), some (vI more)] [] := by
  intro n
  induction n with
  | zero => intro more s U h1 h2 h3 h4; omega
  | succ n ih =>
    intro more s U h1 h2 h3 h4 hs hA hI
    refine jm_ok hG (fun ho => ?_)
    have hwi := hw k hk
    have hb0 := hoS.1
    have hi1 := hk.1
    have hi2 := hk.2.1
    have hle : s + S 0 0 ≤ S 3 k := by
      obtain ⟨m, m0, m1, m2⟩ := pl_ex h0 hk
      have : s ≤ m := Classical.byContradiction (fun hc => hI m m0 (by omega) m2)
      omega
    refine j_iload (pc := 63) hC d_M_plannedStart_63 rfl ?_
    refine j_bipush (pc := 65) hC d_M_plannedStart_65 (by decide) ?_
    refine j_icmp_ge (pc := 67) (tgt := 98) hC d_M_plannedStart_67 (by decide) (fun w67 => ?_) (fun w67 => ?_)
    · exact False.elim (by omega)
    · refine j_aload_n (pc := 70) hC d_M_plannedStart_70 rfl ?_
      refine jm_calli0 (pc := 71) hC hG (cw_M_75 (by decide)) rfl d_M_plannedStart_71 (c_M_fits U ho) (fun z V p71 o71 => ?_)
      have hz := p71.q hA hs.same
      have hz01 := p71.z
      have hSV := hs.trans p71.sc
      have hAV := hA.keep p71
      have e0 := hSV.f 0
      refine j_if_ne (pc := 74) (tgt := 98) hC d_M_plannedStart_74 (by decide) (fun w74 => ?_) (fun w74 => ?_)
      · exact j_forget4 1 (hp s V hSV hAV ⟨by omega, hle, by rcases hz with h | h; (exact h.2); (omega), hI⟩)
      · refine j_iinc_2 (pc := 77) hC d_M_plannedStart_77 (by decide) ?_
        refine j_aload_n (pc := 80) hC d_M_plannedStart_80 rfl ?_
        refine j_iload_n (pc := 81) hC d_M_plannedStart_81 rfl ?_
        refine j_iload_n (pc := 82) hC d_M_plannedStart_82 rfl ?_
        refine j_iload_n (pc := 83) hC d_M_plannedStart_83 rfl ?_
        refine j_aload_n (pc := 84) hC d_M_plannedStart_84 rfl ?_
        refine jm_gf_len (pc := 85) hC hG d_M_plannedStart_85 (fun l85 u85 => ?_)
        refine j_iadd (pc := 88) hC d_M_plannedStart_88 ?_
        refine jm_callv3 (pc := 89) hC hG (cw_M_71 (by decide)) rfl d_M_plannedStart_89 (c_M_window V o71 k (s + 1) (s + 1 + V 0 0) (by omega) (by omega) (by omega) (by omega) (by omega) (by omega)) (fun W p89 o89 => ?_)
        refine J.eqs p89 ?_
        rw [e0]
        have hSW := hSV.trans (winS.sc V k (s + 1) (s + 1 + S 0 0))
        refine j_iinc_4 (pc := 92) hC d_M_plannedStart_92 (by decide) ?_
        refine j_goto (pc := 95) (tgt := 63) hC d_M_plannedStart_95 (by decide) ?_
        exact ih (more + 1) (s + 1) _ (by omega) (by omega) (by omega) (by omega) hSW (hAV.toB.win hk (s + 1)) (fun m m0 m1 q => by
          rcases (show m < s ∨ m = s by omega) with h | rfl
          · exact hI m m0 h q
          · rcases hz with h | h
            · omega
            · exact h.2 q)
theorem lp_M_planned1 {id : Int} (hoS : okM S) (hw : WfM S) (hid : BM S id) (hC : CX X R_M b_M_plannedStart 5 (some .int) 3) (hG : GM X) (hp : ∀ z u, ScM S u → plQ S id z → post z u) : ∀ (n : Nat) (k s : Int) (U : St) (pl : Int → Int), 0 ≤ k → k ≤ id + 1 → id + 1 - k < n → plI S U pl k → (BM S (k - 1) → s = pl (k - 1)) → J X 5 (some .int) post U 21 [some (.ref (gA X 0)), some (vI id), some (vI s), some (vI k), none] [] := by
  intro n
  induction n with
  | zero => intro k s U pl h1 h2 h3; omega
  | succ n ih =>
    intro k s U pl h1 h2 h3 hI hls
    refine jm_ok hG (fun ho => ?_)
    have hi1 := hid.1
    have hi2 := hid.2.1
    have e1 := hI.1.a 1 k
    have e2 := hI.1.a 2 k
    have e0 := hI.1.f 0
    have hb0 := hoS.1
    refine j_iload_n (pc := 21) hC d_M_plannedStart_21 rfl ?_
    refine j_iload_n (pc := 22) hC d_M_plannedStart_22 rfl ?_
    refine j_icmp_gt (pc := 23) (tgt := 104) hC d_M_plannedStart_23 (by decide) (fun w23 => ?_) (fun w23 => ?_)
    · refine j_iload_n (pc := 104) hC d_M_plannedStart_104 rfl ?_
      exact j_iret (pc := 105) hC d_M_plannedStart_105 (hp _ _ hI.1 ⟨pl, fun i hi q => hI.2.2.1 i hi (by omega), by
              have e : k - 1 = id := by omega
              rw [← e]
              exact hls (e ▸ hid)⟩)
    · refine j_iload_n (pc := 26) hC d_M_plannedStart_26 rfl ?_
      refine j_bipush (pc := 27) hC d_M_plannedStart_27 (by decide) ?_
      refine j_icmp_ge (pc := 29) (tgt := 104) hC d_M_plannedStart_29 (by decide) (fun w29 => ?_) (fun w29 => ?_)
      · exact False.elim (by omega)
      · refine j_aload_n (pc := 32) hC d_M_plannedStart_32 rfl ?_
        refine jm_gf_held (pc := 33) hC hG d_M_plannedStart_33 ?_
        refine j_iload_n (pc := 36) hC d_M_plannedStart_36 rfl ?_
        refine jm_ld_held (pc := 37) hC hG d_M_plannedStart_37 (fun l37 u37 => ?_)
        refine j_if_eq (pc := 38) (tgt := 98) hC d_M_plannedStart_38 (by decide) (fun w38 => ?_) (fun w38 => ?_)
        · refine j_iinc_3 (pc := 98) hC d_M_plannedStart_98 (by decide) ?_
          refine j_goto (pc := 101) (tgt := 21) hC d_M_plannedStart_101 (by decide) ?_
          exact ih (k + 1) s U pl (by omega) (by omega) (by omega) (pl_skip hI (fun q => by have := q.2.2; omega)) (fun q => by rw [show k + 1 - 1 = k by omega] at q; have := q.2.2; omega)
        · have hk : BM S k := ⟨h1, by omega, by omega⟩
          have hwk := hw k hk
          refine j_aload_n (pc := 41) hC d_M_plannedStart_41 rfl ?_
          refine jm_gf_rel (pc := 42) hC hG d_M_plannedStart_42 ?_
          refine j_iload_n (pc := 45) hC d_M_plannedStart_45 rfl ?_
          refine jm_ld_rel (pc := 46) hC hG d_M_plannedStart_46 (fun l46 u46 => ?_)
          refine j_istore_2 (pc := 47) hC d_M_plannedStart_47 (by decide) ?_
          refine j_aload_n (pc := 48) hC d_M_plannedStart_48 rfl ?_
          refine j_iload_n (pc := 49) hC d_M_plannedStart_49 rfl ?_
          refine j_iload_n (pc := 50) hC d_M_plannedStart_50 rfl ?_
          refine j_iload_n (pc := 51) hC d_M_plannedStart_51 rfl ?_
          refine j_aload_n (pc := 52) hC d_M_plannedStart_52 rfl ?_
          refine jm_gf_len (pc := 53) hC hG d_M_plannedStart_53 (fun l53 u53 => ?_)
          refine j_iadd (pc := 56) hC d_M_plannedStart_56 ?_
          refine jm_callv3 (pc := 57) hC hG (cw_M_71 (by decide)) rfl d_M_plannedStart_57 (c_M_window U ho k (U 2 k) (U 2 k + U 0 0) (by omega) (by omega) (by omega) (by omega) (by omega) (by omega)) (fun V p57 o57 => ?_)
          refine J.eqs p57 ?_
          rw [e2, e0]
          have hSV := hI.1.trans (winS.sc U k (S 2 k) (S 2 k + S 0 0))
          refine j_iconst (pc := 60) hC d_M_plannedStart_60 ?_
          refine j_istore_4 (pc := 61) hC d_M_plannedStart_61 (by decide) ?_
          refine lp_M_planned2 (id := id) hoS hw hk hI hC hG (fun s' V hV hA hq => ?_) 50 0 (S 2 k) _ (by omega) (by omega) (by omega) (by omega) hSV ((pl_B hI).win hk (S 2 k)) (fun m _ _ => by omega)
          refine j_iinc_3 (pc := 98) hC d_M_plannedStart_98 (by decide) ?_
          refine j_goto (pc := 101) (tgt := 21) hC d_M_plannedStart_101 (by decide) ?_
          exact ih (k + 1) s' V (updI pl k s') (by omega) (by omega) (by omega) (pl_take hI hk hV hA hq) (fun _ => by rw [show k + 1 - 1 = k by omega, updI_eq])
theorem c_M_plannedStart (S : St) (ho : okM S) (hw : WfM S) (hf : FBM S) (id : Int) (i1 : -2147483648 ≤ id) (i2 : id ≤ 2147483647) : Ct MW okM y_M_plannedStart b_M_plannedStart 5 (some .int) 3 [id] S (fun z u => (¬ thereId S id ∧ z = -1 ∧ u = S) ∨ (thereId S id ∧ ScM S u ∧ plQ S id z)) := by
  refine Ct.of (by decide) (Nat.le_of_ble_eq_true rfl) ho (fun X hW hk hC => ?_)
  have hG : GM X := ⟨hW, hk⟩
  replace hC : CX X R_M b_M_plannedStart 5 (some .int) 3 := hC
  show J X 5 (some .int) _ S 0 [some (.ref (gA X 0)), some (vI id), none, none, none] []
  refine j_aload_n (pc := 0) hC d_M_plannedStart_0 rfl ?_
  refine j_iload_n (pc := 1) hC d_M_plannedStart_1 rfl ?_
  refine jm_calli1 (pc := 2) hC hG (cw_M_79 (by decide)) rfl d_M_plannedStart_2 (c_M_there S ho id i1 i2) (fun zh S2 p2 o2 => ?_)
  refine J.eqs p2.1 ?_
  replace p2 := p2.2
  have hzh : zh = 0 ∨ zh = 1 := by rcases p2 with q | q; (right; exact q.1); (left; exact q.1)
  refine j_if_ne (pc := 5) (tgt := 10) hC d_M_plannedStart_5 (by decide) (fun w5 => ?_) (fun w5 => ?_)
  · have hh : thereId S id := by rcases p2 with q | q; (exact q.2); (omega)
    have hi1 := hh.1
    have hi2 := hh.2.1
    refine j_aload_n (pc := 10) hC d_M_plannedStart_10 rfl ?_
    refine j_iconst (pc := 11) hC d_M_plannedStart_11 ?_
    refine j_bipush (pc := 12) hC d_M_plannedStart_12 (by decide) ?_
    refine jm_callv2 (pc := 14) hC hG (cw_M_68 (by decide)) rfl d_M_plannedStart_14 (c_M_ask S ho 0 40 (by omega) (by omega) (by omega) (by omega)) (fun U p14 o14 => ?_)
    refine j_iconst (pc := 17) hC d_M_plannedStart_17 ?_
    refine j_istore_2 (pc := 18) hC d_M_plannedStart_18 (by decide) ?_
    refine j_iconst (pc := 19) hC d_M_plannedStart_19 ?_
    refine j_istore_3 (pc := 20) hC d_M_plannedStart_20 (by decide) ?_
    refine lp_M_planned1 ho hw hh hC hG (fun z u h1 h2 => Or.inr ⟨hh, h1, h2⟩) 10 0 _ U (fun _ => 0) (by omega) (by omega) (by omega) ⟨p14.sc, (AskM.base hw p14).congr (fun _ => Iff.rfl) (fun i hi => ?_), fun i hi q => by have := hi.1; omega, (FQ_iff (fun _ => Iff.rfl) (fun i hi => ?_)).mp hf⟩ (fun q => by have := q.1; omega)
    · rw [gR_0 hi.1, gD_0 hi.1]; exact ⟨rfl, rfl⟩
    · rw [gR_0 hi.1, gD_0 hi.1]; exact ⟨rfl, rfl⟩
  · refine j_iconst (pc := 8) hC d_M_plannedStart_8 ?_
    exact j_iret (pc := 9) hC d_M_plannedStart_9 (Or.inl ⟨by rcases p2 with q | q; (omega); (exact q.2), rfl, rfl⟩)
end SearchM
end
section
-- THE PLANNER AND THE MODEL SIDE BY SIDE: equal answers
def Rel (S M : St) : Prop := M 0 0 = S 0 0 ∧ M 0 1 = S 0 1 ∧ (∀ i, 0 ≤ i → i < 6 → M 1 i = S 1 i) ∧ (∀ i, S 0 1 ≤ i → i < 6 → S 1 i = 0) ∧ (∀ i, BS S i → M 2 i = S 2 i ∧ M 3 i = S 3 i) ∧ WfS S ∧ (∀ k, 0 ≤ k → k < 4 → M 4 k = S 4 k ∧ (S 4 k = 1 → M 5 k = S 5 k ∧ M 6 k = S 6 k)) ∧ FB S ∧ (S 0 4 = 1 → PlanOk S)
section RelL
variable {S M u v V W : St} {z z' : Int}
theorem Rel.bs (h : Rel S M) (ho : okP S) (i : Int) : BM M i ↔ BS S i := by
  obtain ⟨-, -, h1, h2, -⟩ := h
  have hb := ho.2.1
  constructor
  · rintro ⟨a, b, c⟩
    rw [h1 i a b] at c
    refine ⟨a, ?_, c⟩
    refine Classical.byContradiction (fun hc => ?_)
    have := h2 i (by omega) b
    omega
  · rintro ⟨a, b, c⟩
    exact ⟨a, by omega, by rw [h1 i a (by omega)]; exact c⟩
theorem Rel.same (h : Rel S M) : SameQ S M := SameQ.of h.1 h.2.2.2.2.2.2.1
theorem Rel.wf (h : Rel S M) : WfS S := h.2.2.2.2.2.1
theorem Rel.fb (h : Rel S M) : FB S := h.2.2.2.2.2.2.2.1
theorem Rel.pk (h : Rel S M) : S 0 4 = 1 → PlanOk S := h.2.2.2.2.2.2.2.2
theorem Rel.w2 (h : Rel S M) {i : Int} (hi : BS S i) : M 2 i = S 2 i := (h.2.2.2.2.1 i hi).1
theorem Rel.w3 (h : Rel S M) {i : Int} (hi : BS S i) : M 3 i = S 3 i := (h.2.2.2.2.1 i hi).2
theorem Rel.wfM (h : Rel S M) (ho : okP S) : WfM M := by
  intro i hi
  have hi := (h.bs ho i).mp hi
  rw [h.w2 hi, h.w3 hi, h.1]
  exact h.wf i hi
theorem Rel.fq (h : Rel S M) (ho : okP S) {F D F' D' : Int → Int} (hF : ∀ i, BS S i → F i = F' i ∧ D i = D' i) : FQ M (BM M) F D ↔ FQ S (BS S) F' D' := by
  rw [h.same.FQ]
  exact FQ_iff (h.bs ho) (fun i hi => hF i ((h.bs ho i).mp hi))
theorem Rel.fx (h : Rel S M) (ho : okP S) (e r d : Int) : FXM M e r d ↔ FX S e r d := by
  unfold FXM FX
  rw [h.same.FQ]
  refine FQ_iff (fun i => or_congr (h.bs ho i) Iff.rfl) (fun i hi => ?_)
  by_cases q : i = e
  · rw [q, updI_eq, updI_eq, updI_eq, updI_eq]; exact ⟨rfl, rfl⟩
  · rcases hi with hi | hi
    · have hi := (h.bs ho i).mp hi
      rw [updI_ne q, updI_ne q, updI_ne q, updI_ne q, h.w2 hi, h.w3 hi]; exact ⟨rfl, rfl⟩
    · exact absurd hi q
theorem Rel.fbm (h : Rel S M) (ho : okP S) : FBM M := (h.fq ho (fun i hi => ⟨h.w2 hi, h.w3 hi⟩)).mpr h.fb
theorem Rel.feg (h : Rel S M) (ho : okP S) {pl pl' : Int → Int} {pins id s : Int} (hp : ∀ i, BS S i → i < pins → i ≠ id → pl' i = pl i) : FEg M (BM M) pl' pins id s ↔ FEg S (BS S) pl pins id s := by
  refine h.fq ho (fun i hi => ?_)
  rw [h.1]
  by_cases q : i = id
  · rw [q, updI_eq, updI_eq, updI_eq, updI_eq]; exact ⟨rfl, rfl⟩
  · rw [updI_ne q, updI_ne q, updI_ne q, updI_ne q]
    unfold gR gD
    by_cases e : i < pins
    · rw [if_pos e, if_pos e, if_pos e, if_pos e, hp i hi e q]; exact ⟨rfl, rfl⟩
    · rw [if_neg e, if_neg e, if_neg e, if_neg e, h.w2 hi, h.w3 hi]; exact ⟨rfl, rfl⟩
/-- the plan may be made, the scratch may change -/
theorem Rel.scp (h : Rel S M) (hs : Scp S u) (hp : u 0 4 = 1 → PlanOk u) : Rel u M := by
  obtain ⟨h1, h2, h3, h4, h5, h6, h7, h8, h9⟩ := h
  refine ⟨by rw [hs.f0]; exact h1, by rw [hs.f1]; exact h2, fun i a b => by rw [hs.a 1]; exact h3 i a b, fun i a b => by rw [hs.a 1]; exact h4 i (by rw [← hs.f1]; exact a) b, fun i hi => by rw [hs.a 2, hs.a 3]; exact h5 i ((hs.BS i).mp hi), hs.wf h6, fun k a b => by rw [hs.a 4, hs.a 5, hs.a 6]; exact h7 k a b, ?_, hp⟩
  show FQ u (BS u) (u 2) (u 3)
  rw [hs.same.FQ]
  exact (FQ_iff (fun i => (hs.BS i).symm) (fun i _ => ⟨(hs.a 2 i).symm, (hs.a 3 i).symm⟩)).mp h8
theorem Rel.sc (h : Rel S M) (hs : Sc S u) : Rel u M := h.scp hs.scp (fun q => (h.pk (by rw [← hs.f 4]; exact q)).sc hs)
theorem Rel.scM (h : Rel S M) (hs : ScM M v) : Rel S v := by
  obtain ⟨h1, h2, h3, h4, h5, h6, h7, h8, h9⟩ := h
  exact ⟨by rw [hs.f 0]; exact h1, by rw [hs.f 1]; exact h2, fun i a b => by rw [hs.a 1]; exact h3 i a b, h4, fun i hi => by rw [hs.a 2, hs.a 3]; exact h5 i hi, h6, fun k a b => by rw [hs.a 4, hs.a 5, hs.a 6]; exact h7 k a b, h8, h9⟩
theorem Rel.win (h : Rel S M) (r d : Int) : winOk M r d ↔ winOk S r d := by unfold winOk; rw [h.1]
theorem Rel.there (h : Rel S M) (ho : okP S) (id : Int) : thereId M id ↔ holdsId S id := h.bs ho id
-- counting the jobs
theorem cnH_hole {f : Int → Int} {i0 : Int} (h0 : 0 ≤ i0) (h : ¬ f i0 = 1) : ∀ n : Nat, i0 < n → cnH f n < n
  | 0, q => by omega
  | n + 1, q => by
    have hb := cnH_bd f n
    unfold cnH
    by_cases e : i0 = n
    · subst e
      rw [if_neg h]; omega
    · have := cnH_hole h0 h n (by omega)
      split <;> omega
theorem cnH_all {f : Int → Int} : ∀ n : Nat, (∀ i : Int, 0 ≤ i → i < n → f i = 1) → cnH f n = n
  | 0, _ => rfl
  | n + 1, h => by
    unfold cnH
    rw [if_pos (h n (by omega) (by omega)), cnH_all n (fun i a b => h i a (by omega))]
    omega
theorem cnH_tail {f : Int → Int} {c : Nat} (h : ∀ i : Int, c ≤ i → i < 6 → ¬ f i = 1) : ∀ n : Nat, c + n ≤ 6 → cnH f (c + n) = cnH f c
  | 0, _ => rfl
  | n + 1, q => by
    show (if f ((c + n : Nat) : Int) = 1 then cnH f (c + n) + 1 else cnH f (c + n)) = cnH f c
    rw [if_neg (h _ (by omega) (by omega)), cnH_tail h n (by omega)]
theorem Rel.cap (h : Rel S M) (ho : okP S) : cnH (M 1) 6 = cnH (M 1) (S 0 1).toNat := by
  have hb := ho.2.1
  have := cnH_tail (f := M 1) (c := (S 0 1).toNat) (fun i a b => by rw [h.2.2.1 i (by omega) b, h.2.2.2.1 i (by omega) b]; omega) (6 - (S 0 1).toNat) (by omega)
  rw [show (S 0 1).toNat + (6 - (S 0 1).toNat) = 6 by omega] at this
  exact this
theorem free_eq (h : Rel S M) (ho : okP S) {f f' : Int} (h1 : freeNo S f) (h2 : lfQ M f') : (f = -1 ∧ f' = 6) ∨ (0 ≤ f ∧ f < 6 ∧ f' = f) := by
  have hb := ho.2.1
  have hc := h.cap ho
  have e1 := h.2.1
  rcases h1 with ⟨rfl, a⟩ | ⟨a1, a2, a3, a4⟩
  · left
    have := cnH_all (f := M 1) (S 0 1).toNat (fun i q1 q2 => by rw [h.2.2.1 i q1 (by omega)]; exact a i q1 (by omega))
    rcases h2 with h2 | h2 <;> omega
  · right
    have hn := cnH_hole (f := M 1) a1 (by rw [h.2.2.1 f a1 (by omega), a3]; omega) (S 0 1).toNat (by omega)
    rcases h2 with h2 | ⟨b1, b2, b3, b4, b5⟩
    · omega
    · refine ⟨a1, by omega, ?_⟩
      refine Classical.byContradiction (fun hne => ?_)
      rcases (show f' < f ∨ f < f' by omega) with q | q
      · have x1 := b4 (by omega)
        have x2 := a4 f' b2 q
        rw [h.2.2.1 f' b2 (by omega)] at x1
        omega
      · have x1 := b5 f a1 q
        rw [h.2.2.1 f a1 (by omega)] at x1
        omega
theorem probe_eq (h : Rel S M) (ho : okP S) {r d : Int} (h1 : probeQ S r d z) (h2 : probeM M r d z') : z = z' ∧ (0 ≤ z → z < 6 ∧ winOk S r d ∧ freeNo S z ∧ FX S z r d) := by
  rcases h1 with ⟨a, rfl⟩ | ⟨a, ⟨b, rfl⟩ | ⟨f, f0, f1, ⟨rfl, c⟩ | ⟨rfl, c⟩⟩⟩ <;> rcases h2 with ⟨a', rfl⟩ | ⟨a', f', g1, ⟨g2, rfl⟩ | ⟨g2, ⟨rfl, c'⟩ | ⟨rfl, c'⟩⟩⟩
  all_goals first
    | exact ⟨rfl, by omega⟩
    | exact absurd ((h.win r d).mp a') a
    | exact absurd ((h.win r d).mpr a) a'
    | skip
  · rcases free_eq h ho b g1 with q | q <;> omega
  · rcases free_eq h ho b g1 with q | q <;> omega
  · rcases free_eq h ho f1 g1 with q | q <;> omega
  · rcases free_eq h ho f1 g1 with q | q
    · omega
    · exact ⟨q.2.2.symm, fun _ => ⟨q.2.1, a, f1, c⟩⟩
  · rcases free_eq h ho f1 g1 with q | q
    · omega
    · rw [q.2.2, h.fx ho] at c'; exact absurd c c'
  · rcases free_eq h ho f1 g1 with q | q <;> omega
  · rcases free_eq h ho f1 g1 with q | q
    · omega
    · rw [q.2.2, h.fx ho] at c'; exact absurd c' c
end RelL
end
section
-- EQUAL ANSWERS, AND THE RELATION GOES ON: one row for each of the law's fifteen cases
section Ops
variable {S M u v V W : St} {z z' : Int}
theorem s2_o {S : St} {a b : Nat} {i j x : Int} (h : b ≠ a) : s2 S a i x b j = S b j := s2_ne (fun q => h q.1)
theorem op_offer (h : Rel S M) (ho : okP S) {r d : Int} (h1 : probeQ S r d z ∧ ((z < 0 ∧ Sc S u) ∨ (0 ≤ z ∧ ∃ V, Sc S V ∧ u = offerS V z r d))) (h2 : probeM M r d z' ∧ ((z' < 0 ∧ ScM M v) ∨ (0 ≤ z' ∧ ∃ V, ScM M V ∧ v = offerM V z' r d))) : z = z' ∧ Rel u v := by
  obtain ⟨e, hq⟩ := probe_eq h ho h1.1 h2.1
  subst e
  refine ⟨rfl, ?_⟩
  rcases h1.2 with ⟨a, hs⟩ | ⟨a, V, hs, rfl⟩ <;> rcases h2.2 with ⟨a', hs'⟩ | ⟨a', V', hs', rfl⟩
  · exact (h.sc hs).scM hs'
  · omega
  · omega
  · obtain ⟨z6, hw, hf, hx⟩ := hq a
    have hzc := (hf.nb a).2
    have hr := (h.sc hs).scM hs'
    have hoV : V 0 1 = S 0 1 := hs.f 1
    have e0 : V 0 0 = S 0 0 := hs.f 0
    obtain ⟨g1, g2, g3, g4, g5, g6, g7, g8, g9⟩ := hr
    have hbs : ∀ i, BS (offerS V z r d) i ↔ BS S i ∨ i = z := by
      intro i
      show (0 ≤ i ∧ i < offerS V z r d 0 1 ∧ offerS V z r d 1 i = 1) ↔ _
      unfold offerS
      rw [s2_ne (by decide), s2_o (by decide), s2_o (by decide), s2_o (by decide), s2_o (by decide), s2_o (by decide), s2_o (by decide)]
      by_cases q : i = z
      · rw [q, s2_eq]; exact ⟨fun _ => Or.inr rfl, fun _ => ⟨a, by omega, rfl⟩⟩
      · rw [s2_ne (fun y => q y.2)]
        constructor
        · intro y; exact Or.inl ((hs.BS i).mp y)
        · rintro (y | y)
          · exact (hs.BS i).mpr y
          · exact absurd y q
    have h2' : ∀ i, offerS V z r d 2 i = updI (S 2) z r i := by
      intro i
      unfold offerS
      rw [s2_o (by decide), s2_o (by decide)]
      by_cases q : i = z
      · rw [q, s2_eq, updI_eq]
      · rw [s2_ne (fun y => q y.2), s2_o (by decide), updI_ne q, hs.a 2]
    have h3' : ∀ i, offerS V z r d 3 i = updI (S 3) z d i := by
      intro i
      unfold offerS
      rw [s2_o (by decide)]
      by_cases q : i = z
      · rw [q, s2_eq, updI_eq]
      · rw [s2_ne (fun y => q y.2), s2_o (by decide), s2_o (by decide), updI_ne q, hs.a 3]
    have hk : ∀ b i, b ≠ 0 → b ≠ 1 → b ≠ 2 → b ≠ 3 → offerS V z r d b i = V b i := by
      intro b i b0 b1 b2 b3
      unfold offerS
      rw [s2_o b0, s2_o b3, s2_o b2, s2_o b1]
    have h0' : ∀ j, j ≠ 4 → offerS V z r d 0 j = V 0 j := by
      intro j hj
      unfold offerS
      rw [s2_ne (fun y => hj y.2), s2_o (by decide), s2_o (by decide), s2_o (by decide)]
    have hsame : SameQ S (offerS V z r d) := SameQ.of (by rw [h0' 0 (by decide)]; exact hs.f 0) (fun k _ _ => ⟨by rw [hk 4 k (by decide) (by decide) (by decide) (by decide)]; exact hs.a 4 k, fun _ => ⟨by rw [hk 5 k (by decide) (by decide) (by decide) (by decide)]; exact hs.a 5 k, by rw [hk 6 k (by decide) (by decide) (by decide) (by decide)]; exact hs.a 6 k⟩⟩)
    have m1 : ∀ i, offerM V' z r d 1 i = if i = z then 1 else V' 1 i := by
      intro i
      unfold offerM
      rw [s2_o (by decide), s2_o (by decide)]
      by_cases q : i = z
      · rw [q, s2_eq, if_pos rfl]
      · rw [s2_ne (fun y => q y.2), if_neg q]
    have m2 : ∀ i, offerM V' z r d 2 i = updI (V' 2) z r i := by
      intro i
      unfold offerM
      rw [s2_o (by decide)]
      by_cases q : i = z
      · rw [q, s2_eq, updI_eq]
      · rw [s2_ne (fun y => q y.2), s2_o (by decide), updI_ne q]
    have m3 : ∀ i, offerM V' z r d 3 i = updI (V' 3) z d i := by
      intro i
      unfold offerM
      by_cases q : i = z
      · rw [q, s2_eq, updI_eq]
      · rw [s2_ne (fun y => q y.2), s2_o (by decide), s2_o (by decide), updI_ne q]
    have mk : ∀ b i, b ≠ 1 → b ≠ 2 → b ≠ 3 → offerM V' z r d b i = V' b i := by
      intro b i b1 b2 b3
      unfold offerM
      rw [s2_o b3, s2_o b2, s2_o b1]
    have s1 : ∀ i, offerS V z r d 1 i = if i = z then 1 else V 1 i := by
      intro i
      unfold offerS
      rw [s2_o (by decide), s2_o (by decide), s2_o (by decide)]
      by_cases q : i = z
      · rw [q, s2_eq, if_pos rfl]
      · rw [s2_ne (fun y => q y.2), if_neg q]
    obtain ⟨w1, w2, w3, w4, w5⟩ := hw
    refine ⟨by rw [mk 0 0 (by decide) (by decide) (by decide), h0' 0 (by decide)]; exact g1, by rw [mk 0 1 (by decide) (by decide) (by decide), h0' 1 (by decide)]; exact g2, fun i i0 i1 => ?_, fun i i0 i1 => ?_, fun i hi => ?_, fun i hi => ?_, fun k k0 k1 => ?_, ?_, fun q => ?_⟩
    · rw [m1, s1]
      by_cases q : i = z
      · rw [if_pos q, if_pos q]
      · rw [if_neg q, if_neg q]; exact g3 i i0 i1
    · rw [h0' 1 (by decide)] at i0
      rw [s1, if_neg (by omega)]
      exact g4 i i0 i1
    · rw [m2, m3, h2', h3']
      by_cases q : i = z
      · rw [q, updI_eq, updI_eq, updI_eq, updI_eq]; exact ⟨rfl, rfl⟩
      · rw [updI_ne q, updI_ne q, updI_ne q, updI_ne q]
        have hb := (hs.BS i).mpr (((hbs i).mp hi).resolve_right q)
        have := g5 i hb
        rw [hs.a 2, hs.a 3] at this
        exact this
    · rw [h2', h3', h0' 0 (by decide), e0]
      by_cases q : i = z
      · rw [q, updI_eq, updI_eq]; exact ⟨w1, by omega, w2⟩
      · rw [updI_ne q, updI_ne q]
        exact h.wf i (((hbs i).mp hi).resolve_right q)
    · rw [mk 4 k (by decide) (by decide) (by decide), mk 5 k (by decide) (by decide) (by decide), mk 6 k (by decide) (by decide) (by decide), hk 4 k (by decide) (by decide) (by decide) (by decide), hk 5 k (by decide) (by decide) (by decide) (by decide), hk 6 k (by decide) (by decide) (by decide) (by decide)]
      exact g7 k k0 k1
    · show FQ _ _ _ _
      rw [hsame.FQ]
      exact (FQ_iff (fun i => (hbs i).symm) (fun i _ => ⟨(h2' i).symm, (h3' i).symm⟩)).mp hx
    · unfold offerS at q
      rw [s2_eq] at q
      omega
theorem op_probe (h : Rel S M) (ho : okP S) {r d : Int} (h1 : Sc S u ∧ probeQ S r d z) (h2 : ScM M v ∧ probeM M r d z') : z = z' ∧ Rel u v := ⟨(probe_eq h ho h1.2 h2.2).1, (h.sc h1.1).scM h2.1⟩
theorem op_move (h : Rel S M) (ho : okP S) {id r d : Int} (h1 : moveQ S id r d z u) (h2 : moveM M id r d z' v) : z = z' ∧ Rel u v := by
  have ht := h.there ho id
  rcases h1 with ⟨a, rfl, rfl⟩ | ⟨a, ⟨b, rfl, rfl⟩ | ⟨b, ⟨rfl, c, hs⟩ | ⟨e, c, V, hs, rfl⟩⟩⟩ <;> rcases h2 with ⟨a', rfl, rfl⟩ | ⟨a', ⟨b', rfl, rfl⟩ | ⟨b', ⟨rfl, c', hs'⟩ | ⟨e', c', V', hs', rfl⟩⟩⟩
  all_goals first
    | exact ⟨rfl, h⟩
    | exact ⟨rfl, (h.sc hs).scM hs'⟩
    | exact absurd (ht.mp a') a
    | exact absurd (ht.mpr a) a'
    | exact absurd ((h.win r d).mp b') b
    | exact absurd ((h.win r d).mpr b) b'
    | exact absurd ((h.fx ho _ _ _).mp c') c
    | exact absurd ((h.fx ho _ _ _).mpr c) c'
    | skip
  refine ⟨e.trans e'.symm, ?_⟩
  have hid : BS S id := a
  obtain ⟨w1, w2, w3, w4, w5⟩ := b
  obtain ⟨g1, g2, g3, g4, g5, g6, g7, g8, g9⟩ := (h.sc hs).scM hs'
  have e0 : V 0 0 = S 0 0 := hs.f 0
  have u2 : ∀ i, s2 (s2 (s2 V 2 id r) 3 id d) 0 4 0 2 i = updI (S 2) id r i := by
    intro i
    rw [s2_o (by decide), s2_o (by decide)]
    by_cases q : i = id
    · rw [q, s2_eq, updI_eq]
    · rw [s2_ne (fun y => q y.2), updI_ne q, hs.a 2]
  have u3 : ∀ i, s2 (s2 (s2 V 2 id r) 3 id d) 0 4 0 3 i = updI (S 3) id d i := by
    intro i
    rw [s2_o (by decide)]
    by_cases q : i = id
    · rw [q, s2_eq, updI_eq]
    · rw [s2_ne (fun y => q y.2), s2_o (by decide), updI_ne q, hs.a 3]
  have uk : ∀ b i, b ≠ 0 → b ≠ 2 → b ≠ 3 → s2 (s2 (s2 V 2 id r) 3 id d) 0 4 0 b i = V b i := by
    intro b i b0 b2 b3
    rw [s2_o b0, s2_o b3, s2_o b2]
  have u0 : ∀ j, j ≠ 4 → s2 (s2 (s2 V 2 id r) 3 id d) 0 4 0 0 j = V 0 j := by
    intro j hj
    rw [s2_ne (fun y => hj y.2), s2_o (by decide), s2_o (by decide)]
  have v2 : ∀ i, s2 (s2 V' 2 id r) 3 id d 2 i = updI (V' 2) id r i := by
    intro i
    rw [s2_o (by decide)]
    by_cases q : i = id
    · rw [q, s2_eq, updI_eq]
    · rw [s2_ne (fun y => q y.2), updI_ne q]
  have v3 : ∀ i, s2 (s2 V' 2 id r) 3 id d 3 i = updI (V' 3) id d i := by
    intro i
    by_cases q : i = id
    · rw [q, s2_eq, updI_eq]
    · rw [s2_ne (fun y => q y.2), s2_o (by decide), updI_ne q]
  have vk : ∀ b i, b ≠ 2 → b ≠ 3 → s2 (s2 V' 2 id r) 3 id d b i = V' b i := by
    intro b i b2 b3
    rw [s2_o b3, s2_o b2]
  have hbs : ∀ i, BS (s2 (s2 (s2 V 2 id r) 3 id d) 0 4 0) i ↔ BS S i := by
    intro i
    show (0 ≤ i ∧ i < s2 (s2 (s2 V 2 id r) 3 id d) 0 4 0 0 1 ∧ s2 (s2 (s2 V 2 id r) 3 id d) 0 4 0 1 i = 1) ↔ _
    rw [u0 1 (by decide), uk 1 i (by decide) (by decide) (by decide)]
    exact hs.BS i
  have hsame : SameQ S (s2 (s2 (s2 V 2 id r) 3 id d) 0 4 0) := SameQ.of (by rw [u0 0 (by decide)]; exact hs.f 0) (fun k _ _ => ⟨by rw [uk 4 k (by decide) (by decide) (by decide)]; exact hs.a 4 k, fun _ => ⟨by rw [uk 5 k (by decide) (by decide) (by decide)]; exact hs.a 5 k, by rw [uk 6 k (by decide) (by decide) (by decide)]; exact hs.a 6 k⟩⟩)
  refine ⟨by rw [vk 0 0 (by decide) (by decide), u0 0 (by decide)]; exact g1, by rw [vk 0 1 (by decide) (by decide), u0 1 (by decide)]; exact g2, fun i i0 i1 => by rw [vk 1 i (by decide) (by decide), uk 1 i (by decide) (by decide) (by decide)]; exact g3 i i0 i1, fun i i0 i1 => ?_, fun i hi => ?_, fun i hi => ?_, fun k k0 k1 => ?_, ?_, fun q => ?_⟩
  · rw [u0 1 (by decide)] at i0
    rw [uk 1 i (by decide) (by decide) (by decide)]
    exact g4 i i0 i1
  · rw [v2, v3, u2, u3]
    by_cases q : i = id
    · rw [q, updI_eq, updI_eq, updI_eq, updI_eq]; exact ⟨rfl, rfl⟩
    · rw [updI_ne q, updI_ne q, updI_ne q, updI_ne q]
      have := g5 i ((hs.BS i).mpr ((hbs i).mp hi))
      rw [hs.a 2, hs.a 3] at this
      exact this
  · rw [u2, u3, u0 0 (by decide), e0]
    by_cases q : i = id
    · rw [q, updI_eq, updI_eq]; exact ⟨w1, by omega, w2⟩
    · rw [updI_ne q, updI_ne q]
      exact h.wf i ((hbs i).mp hi)
  · rw [vk 4 k (by decide) (by decide), vk 5 k (by decide) (by decide), vk 6 k (by decide) (by decide), uk 4 k (by decide) (by decide) (by decide), uk 5 k (by decide) (by decide) (by decide), uk 6 k (by decide) (by decide) (by decide)]
    exact g7 k k0 k1
  · show FQ _ _ _ _
    rw [hsame.FQ]
    refine (FQ_iff (fun i => ?_) (fun i _ => ⟨(u2 i).symm, (u3 i).symm⟩)).mp c
    rw [hbs i]
    constructor
    · rintro (q | q)
      · exact q
      · rw [q]; exact hid
    · exact Or.inl
  · rw [s2_eq] at q
    omega
theorem op_withdraw (h : Rel S M) (ho : okP S) {id : Int} (h1 : (holdsId S id ∧ z = 1 ∧ u = s2 (s2 S 1 id 0) 0 4 0) ∨ (¬ holdsId S id ∧ z = 0 ∧ u = S)) (h2 : (thereId M id ∧ z' = 1 ∧ v = s2 M 1 id 0) ∨ (¬ thereId M id ∧ z' = 0 ∧ v = M)) : z = z' ∧ Rel u v := by
  have ht := h.there ho id
  rcases h1 with ⟨a, rfl, rfl⟩ | ⟨a, rfl, rfl⟩ <;> rcases h2 with ⟨a', rfl, rfl⟩ | ⟨a', rfl, rfl⟩
  all_goals first
    | exact ⟨rfl, h⟩
    | exact absurd (ht.mp a') a
    | exact absurd (ht.mpr a) a'
    | skip
  refine ⟨rfl, ?_⟩
  obtain ⟨g1, g2, g3, g4, g5, g6, g7, g8, g9⟩ := h
  have u1 : ∀ i, s2 (s2 S 1 id 0) 0 4 0 1 i = if i = id then 0 else S 1 i := by
    intro i
    rw [s2_o (by decide)]
    by_cases q : i = id
    · rw [q, s2_eq, if_pos rfl]
    · rw [s2_ne (fun y => q y.2), if_neg q]
  have v1 : ∀ i, s2 M 1 id 0 1 i = if i = id then 0 else M 1 i := by
    intro i
    by_cases q : i = id
    · rw [q, s2_eq, if_pos rfl]
    · rw [s2_ne (fun y => q y.2), if_neg q]
  have uk : ∀ b i, b ≠ 0 → b ≠ 1 → s2 (s2 S 1 id 0) 0 4 0 b i = S b i := by
    intro b i b0 b1
    rw [s2_o b0, s2_o b1]
  have vk : ∀ b i, b ≠ 1 → s2 M 1 id 0 b i = M b i := fun b i b1 => s2_o b1
  have u0 : ∀ j, j ≠ 4 → s2 (s2 S 1 id 0) 0 4 0 0 j = S 0 j := by
    intro j hj
    rw [s2_ne (fun y => hj y.2), s2_o (by decide)]
  have hbs : ∀ i, BS (s2 (s2 S 1 id 0) 0 4 0) i → BS S i := by
    intro i hi
    obtain ⟨a, b, c⟩ := hi
    rw [u0 1 (by decide)] at b
    rw [u1] at c
    split at c
    · omega
    · exact ⟨a, b, c⟩
  have hsame : SameQ S (s2 (s2 S 1 id 0) 0 4 0) := SameQ.of (u0 0 (by decide)) (fun k _ _ => ⟨uk 4 k (by decide) (by decide), fun _ => ⟨uk 5 k (by decide) (by decide), uk 6 k (by decide) (by decide)⟩⟩)
  refine ⟨by rw [s2_o (by decide), u0 0 (by decide)]; exact g1, by rw [s2_o (by decide), u0 1 (by decide)]; exact g2, fun i i0 i1 => ?_, fun i i0 i1 => ?_, fun i hi => ?_, fun i hi => ?_, fun k k0 k1 => ?_, ?_, fun q => ?_⟩
  · rw [u1, v1, g3 i i0 i1]
  · rw [u0 1 (by decide)] at i0
    rw [u1]
    split
    · rfl
    · exact g4 i i0 i1
  · rw [vk 2 i (by decide), vk 3 i (by decide), uk 2 i (by decide) (by decide), uk 3 i (by decide) (by decide)]
    exact g5 i (hbs i hi)
  · rw [uk 2 i (by decide) (by decide), uk 3 i (by decide) (by decide), u0 0 (by decide)]
    exact g6 i (hbs i hi)
  · rw [vk 4 k (by decide), vk 5 k (by decide), vk 6 k (by decide), uk 4 k (by decide) (by decide), uk 5 k (by decide) (by decide), uk 6 k (by decide) (by decide)]
    exact g7 k k0 k1
  · show FQ _ _ _ _
    rw [hsame.FQ]
    exact FQ_mono hbs (fun i _ => by rw [uk 2 i (by decide) (by decide), uk 3 i (by decide) (by decide)]; exact ⟨Int.le_refl _, Int.le_refl _⟩) g8
  · rw [s2_eq] at q
    omega
/-- the same but for the blocks -/
theorem rel_blocks (h : Rel S M) (hu : ∀ b j, b ≠ 4 → b ≠ 5 → b ≠ 6 → b ≠ 7 → b ≠ 8 → b ≠ 9 → b ≠ 10 → b ≠ 11 → ¬ (b = 0 ∧ j = 2) → ¬ (b = 0 ∧ j = 3) → ¬ (b = 0 ∧ j = 4) → u b j = S b j) (hv : ∀ b j, b ≠ 4 → b ≠ 5 → b ≠ 6 → b ≠ 7 → b ≠ 8 → b ≠ 9 → ¬ (b = 0 ∧ j = 2) → v b j = M b j)
    (hk : ∀ k, 0 ≤ k → k < 4 → v 4 k = u 4 k ∧ (u 4 k = 1 → v 5 k = u 5 k ∧ v 6 k = u 6 k)) (hf : FB u) (hp : u 0 4 = 1 → PlanOk u) : Rel u v := by
  obtain ⟨g1, g2, g3, g4, g5, g6, g7, g8, g9⟩ := h
  have u0 : ∀ j, j ≠ 2 → j ≠ 3 → j ≠ 4 → u 0 j = S 0 j := fun j a b c => hu 0 j (by decide) (by decide) (by decide) (by decide) (by decide) (by decide) (by decide) (by decide) (fun q => a q.2) (fun q => b q.2) (fun q => c q.2)
  have ua : ∀ b j, b ≠ 0 → b ≠ 4 → b ≠ 5 → b ≠ 6 → b ≠ 7 → b ≠ 8 → b ≠ 9 → b ≠ 10 → b ≠ 11 → u b j = S b j := fun b j a0 a4 a5 a6 a7 a8 a9 a10 a11 => hu b j a4 a5 a6 a7 a8 a9 a10 a11 (fun q => a0 q.1) (fun q => a0 q.1) (fun q => a0 q.1)
  have va : ∀ b j, b ≠ 0 → b ≠ 4 → b ≠ 5 → b ≠ 6 → b ≠ 7 → b ≠ 8 → b ≠ 9 → v b j = M b j := fun b j a0 a4 a5 a6 a7 a8 a9 => hv b j a4 a5 a6 a7 a8 a9 (fun q => a0 q.1)
  have hbs : ∀ i, BS u i → BS S i := by
    intro i hi
    obtain ⟨a, b, c⟩ := hi
    rw [u0 1 (by decide) (by decide) (by decide)] at b
    rw [ua 1 i (by decide) (by decide) (by decide) (by decide) (by decide) (by decide) (by decide) (by decide) (by decide)] at c
    exact ⟨a, b, c⟩
  have e1 := fun i => ua 1 i (by decide) (by decide) (by decide) (by decide) (by decide) (by decide) (by decide) (by decide) (by decide)
  have e2 := fun i => ua 2 i (by decide) (by decide) (by decide) (by decide) (by decide) (by decide) (by decide) (by decide) (by decide)
  have e3 := fun i => ua 3 i (by decide) (by decide) (by decide) (by decide) (by decide) (by decide) (by decide) (by decide) (by decide)
  have m1 := fun i => va 1 i (by decide) (by decide) (by decide) (by decide) (by decide) (by decide) (by decide)
  have m2 := fun i => va 2 i (by decide) (by decide) (by decide) (by decide) (by decide) (by decide) (by decide)
  have m3 := fun i => va 3 i (by decide) (by decide) (by decide) (by decide) (by decide) (by decide) (by decide)
  have f0 := u0 0 (by decide) (by decide) (by decide)
  have f1 := u0 1 (by decide) (by decide) (by decide)
  have n0 := hv 0 0 (by decide) (by decide) (by decide) (by decide) (by decide) (by decide) (by decide)
  have n1 := hv 0 1 (by decide) (by decide) (by decide) (by decide) (by decide) (by decide) (by decide)
  exact ⟨by rw [n0, f0]; exact g1, by rw [n1, f1]; exact g2, fun i a b => by rw [m1, e1]; exact g3 i a b, fun i a b => by rw [f1] at a; rw [e1]; exact g4 i a b, fun i hi => by rw [m2, m3, e2, e3]; exact g5 i (hbs i hi), fun i hi => by rw [e2, e3, f0]; exact g6 i (hbs i hi), hk, hf, hp⟩
theorem plan_same (hq : SameQ S u) (h1 : u 0 1 = S 0 1) (a1 : ∀ i, u 1 i = S 1 i) (a2 : ∀ i, u 2 i = S 2 i) (a3 : ∀ i, u 3 i = S 3 i) (a11 : ∀ i, u 11 i = S 11 i) (h : PlanOk S) : PlanOk u := by
  have hbs : ∀ i, BS u i ↔ BS S i := fun i => by
    show (0 ≤ i ∧ i < u 0 1 ∧ u 1 i = 1) ↔ (0 ≤ i ∧ i < S 0 1 ∧ S 1 i = 1)
    rw [h1, a1]
  have hfe : ∀ pins id s, FEp u pins id s ↔ FEp S pins id s := fun pins id s => by
    unfold FEp
    rw [hq.FQ]
    refine FQ_iff hbs (fun i _ => ?_)
    by_cases e : i = id
    · rw [e, updI_eq, updI_eq, updI_eq, updI_eq, hq.1]; exact ⟨rfl, rfl⟩
    · rw [updI_ne e, updI_ne e, updI_ne e, updI_ne e]
      unfold pinR pinD
      rw [a2, a3, a11, hq.1]
      exact ⟨rfl, rfl⟩
  intro i hi
  obtain ⟨q1, q2, q3, q4⟩ := h i ((hbs i).mp hi)
  rw [a11]
  exact ⟨by rw [a2]; exact q1, by rw [a3, hq.1]; exact q2, (hfe _ _ _).mpr q3, fun m m0 m1 q => q4 m (by rw [← a2]; exact m0) m1 ((hfe _ _ _).mp q)⟩
theorem blkS_4 (S : St) (k a b j : Int) : blkS S k a b 4 j = if j = k then 1 else S 4 j := by
  unfold blkS
  rw [s2_o (by decide), s2_o (by decide)]
  by_cases e : j = k
  · rw [e, s2_eq, if_pos rfl]
  · rw [s2_ne (fun q => e q.2), if_neg e]
theorem blkS_5 (S : St) (k a b j : Int) : blkS S k a b 5 j = if j = k then a else S 5 j := by
  unfold blkS
  rw [s2_o (by decide)]
  by_cases e : j = k
  · rw [e, s2_eq, if_pos rfl]
  · rw [s2_ne (fun q => e q.2), s2_o (by decide), if_neg e]
theorem blkS_6 (S : St) (k a b j : Int) : blkS S k a b 6 j = if j = k then b else S 6 j := by
  unfold blkS
  by_cases e : j = k
  · rw [e, s2_eq, if_pos rfl]
  · rw [s2_ne (fun q => e q.2), s2_o (by decide), s2_o (by decide), if_neg e]
theorem blk_fb (h : Rel S M) (ho : okP S) (k a b : Int) : FBM (blkS M k a b) ↔ FB (blkS S k a b) := by
  have hsame : SameQ (blkS S k a b) (blkS M k a b) := SameQ.of (by rw [blkS_n M k a b (by decide) (by decide) (by decide), blkS_n S k a b (by decide) (by decide) (by decide)]; exact h.1) (fun j j0 j1 => by
    rw [blkS_4, blkS_4, blkS_5, blkS_5, blkS_6, blkS_6]
    by_cases e : j = k
    · rw [if_pos e, if_pos e, if_pos e, if_pos e, if_pos e, if_pos e]; exact ⟨rfl, fun _ => ⟨rfl, rfl⟩⟩
    · rw [if_neg e, if_neg e, if_neg e, if_neg e, if_neg e, if_neg e]; exact h.2.2.2.2.2.2.1 j j0 j1)
  unfold FBM FB
  rw [hsame.FQ]
  have hbm : ∀ i, BM (blkS M k a b) i ↔ BS S i := fun i => by
    rw [← h.bs ho i]
    show (0 ≤ i ∧ i < 6 ∧ blkS M k a b 1 i = 1) ↔ (0 ≤ i ∧ i < 6 ∧ M 1 i = 1)
    rw [blkS_n M k a b (by decide) (by decide) (by decide)]
  have hbs : ∀ i, BS (blkS S k a b) i ↔ BS S i := fun i => by
    show (0 ≤ i ∧ i < blkS S k a b 0 1 ∧ blkS S k a b 1 i = 1) ↔ (0 ≤ i ∧ i < S 0 1 ∧ S 1 i = 1)
    rw [blkS_n S k a b (by decide) (by decide) (by decide), blkS_n S k a b (by decide) (by decide) (by decide)]
  refine FQ_iff (fun i => (hbm i).trans (hbs i).symm) (fun i hi => ?_)
  have hi := (hbm i).mp hi
  rw [blkS_n M k a b (by decide) (by decide) (by decide), blkS_n M k a b (by decide) (by decide) (by decide), blkS_n S k a b (by decide) (by decide) (by decide), blkS_n S k a b (by decide) (by decide) (by decide)]
  exact ⟨h.w2 hi, h.w3 hi⟩
theorem op_block (h : Rel S M) (ho : okP S) {a b : Int} (h1 : blockQ S a b z u) (h2 : blockM M a b z' v) : z = z' ∧ Rel u v := by
  have hk4 := h.2.2.2.2.2.2.1
  rcases h1 with ⟨x, rfl, rfl⟩ | ⟨x, k, hk, h1⟩ <;> rcases h2 with ⟨x', rfl, rfl⟩ | ⟨x', k', hk', h2⟩
  · exact ⟨rfl, h⟩
  · exact absurd x' x
  · exact absurd x x'
  · have ek : k = k' := by
      obtain ⟨a1, a2, a3, a4⟩ := hk
      obtain ⟨b1, b2, b3, b4⟩ := hk'
      refine Classical.byContradiction (fun hne => ?_)
      rcases (show k < k' ∨ k' < k by omega) with q | q
      · have y1 := a3 (by omega)
        have y2 := b4 k a1 q
        have := (hk4 k a1 (by omega)).1
        omega
      · have y1 := b3 (by omega)
        have y2 := a4 k' b1 q
        have := (hk4 k' b1 (by omega)).1
        omega
    subst ek
    have hfb := blk_fb h ho k a b
    rcases h1 with ⟨c, rfl, rfl⟩ | ⟨c, ⟨rfl, d, V, hs, rfl⟩ | ⟨e, d, V, hs, rfl⟩⟩ <;> rcases h2 with ⟨c', rfl, rfl⟩ | ⟨c', ⟨rfl, d', V', hs', rfl⟩ | ⟨e', d', V', hs', rfl⟩⟩
    all_goals first
      | exact ⟨rfl, h⟩
      | omega
      | exact absurd (hfb.mp d') d
      | exact absurd (hfb.mpr d) d'
      | skip
    · refine ⟨rfl, ?_⟩
      have hS4 := hk.2.2.1 c
      have u4 : ∀ j, s2 V 4 k 0 4 j = if j = k then 0 else S 4 j := by
        intro j
        by_cases e : j = k
        · rw [e, s2_eq, if_pos rfl]
        · rw [s2_ne (fun q => e q.2), if_neg e, hs.a 4, blkS_4, if_neg e]
      have v4 : ∀ j, s2 V' 4 k 0 4 j = if j = k then 0 else M 4 j := by
        intro j
        by_cases e : j = k
        · rw [e, s2_eq, if_pos rfl]
        · rw [s2_ne (fun q => e q.2), if_neg e, hs'.a 4, blkS_4, if_neg e]
      have uo : ∀ b' j, b' ≠ 4 → b' ≠ 5 → b' ≠ 6 → b' ≠ 7 → b' ≠ 8 → b' ≠ 9 → b' ≠ 10 → ¬ (b' = 0 ∧ j = 2) → ¬ (b' = 0 ∧ j = 3) → s2 V 4 k 0 b' j = S b' j := by
        intro b' j a4 a5 a6 a7 a8 a9 a10 x2 x3
        rw [s2_o a4, hs b' j a7 a8 a9 a10 x2 x3, blkS_n S k a b a4 a5 a6]
      have hsame : SameQ S (s2 V 4 k 0) := SameQ.of (uo 0 0 (by decide) (by decide) (by decide) (by decide) (by decide) (by decide) (by decide) (by decide) (by decide)) (fun j j0 j1 => by
        rw [u4]
        by_cases e : j = k
        · rw [if_pos e, e, hS4]; exact ⟨rfl, fun q => by omega⟩
        · rw [if_neg e, s2_o (by decide), s2_o (by decide), hs.a 5, hs.a 6, blkS_5, blkS_6, if_neg e, if_neg e]; exact ⟨rfl, fun _ => ⟨rfl, rfl⟩⟩)
      have ua : ∀ b' j, b' ≠ 0 → b' ≠ 4 → b' ≠ 5 → b' ≠ 6 → b' ≠ 7 → b' ≠ 8 → b' ≠ 9 → b' ≠ 10 → s2 V 4 k 0 b' j = S b' j := fun b' j a0 a4 a5 a6 a7 a8 a9 a10 => uo b' j a4 a5 a6 a7 a8 a9 a10 (fun q => a0 q.1) (fun q => a0 q.1)
      have e1 := fun i => ua 1 i (by decide) (by decide) (by decide) (by decide) (by decide) (by decide) (by decide) (by decide)
      have e2 := fun i => ua 2 i (by decide) (by decide) (by decide) (by decide) (by decide) (by decide) (by decide) (by decide)
      have e3 := fun i => ua 3 i (by decide) (by decide) (by decide) (by decide) (by decide) (by decide) (by decide) (by decide)
      have e11 := fun i => ua 11 i (by decide) (by decide) (by decide) (by decide) (by decide) (by decide) (by decide) (by decide)
      have f1 := uo 0 1 (by decide) (by decide) (by decide) (by decide) (by decide) (by decide) (by decide) (by decide) (by decide)
      have f4 := uo 0 4 (by decide) (by decide) (by decide) (by decide) (by decide) (by decide) (by decide) (by decide) (by decide)
      have hbs : ∀ i, BS (s2 V 4 k 0) i ↔ BS S i := fun i => by
        show (0 ≤ i ∧ i < s2 V 4 k 0 0 1 ∧ s2 V 4 k 0 1 i = 1) ↔ (0 ≤ i ∧ i < S 0 1 ∧ S 1 i = 1)
        rw [f1, e1]
      refine rel_blocks h (fun b' j a4 a5 a6 a7 a8 a9 a10 _ x2 x3 _ => uo b' j a4 a5 a6 a7 a8 a9 a10 x2 x3) (fun b' j a4 a5 a6 a7 a8 a9 x2 => by rw [s2_o a4, hs' b' j a7 a8 a9 x2, blkS_n M k a b a4 a5 a6]) (fun j j0 j1 => ?_) ?_ (fun q => plan_same hsame f1 e1 e2 e3 e11 (h.pk (by rw [← f4]; exact q)))
      · rw [u4, v4]
        by_cases e : j = k
        · rw [if_pos e, if_pos e]; exact ⟨rfl, fun q => by omega⟩
        · rw [if_neg e, if_neg e, s2_o (by decide), s2_o (by decide), s2_o (by decide), s2_o (by decide), hs.a 5, hs.a 6, hs'.a 5, hs'.a 6, blkS_5, blkS_5, blkS_6, blkS_6, if_neg e, if_neg e, if_neg e, if_neg e]
          exact hk4 j j0 j1
      · show FQ _ _ _ _
        rw [hsame.FQ]
        exact (FQ_iff (fun i => (hbs i).symm) (fun i _ => ⟨(e2 i).symm, (e3 i).symm⟩)).mp h.fb
    · refine ⟨e.trans e'.symm, ?_⟩
      have uo : ∀ b' j, ¬ (b' = 0 ∧ j = 4) → b' ≠ 7 → b' ≠ 8 → b' ≠ 9 → b' ≠ 10 → ¬ (b' = 0 ∧ j = 2) → ¬ (b' = 0 ∧ j = 3) → s2 V 0 4 0 b' j = blkS S k a b b' j := by
        intro b' j x4 a7 a8 a9 a10 x2 x3
        rw [s2_ne x4, hs b' j a7 a8 a9 a10 x2 x3]
      have ua : ∀ b' j, b' ≠ 0 → b' ≠ 7 → b' ≠ 8 → b' ≠ 9 → b' ≠ 10 → s2 V 0 4 0 b' j = blkS S k a b b' j := fun b' j a0 a7 a8 a9 a10 => uo b' j (fun q => a0 q.1) a7 a8 a9 a10 (fun q => a0 q.1) (fun q => a0 q.1)
      have f0 := uo 0 0 (by decide) (by decide) (by decide) (by decide) (by decide) (by decide) (by decide)
      have f1 := uo 0 1 (by decide) (by decide) (by decide) (by decide) (by decide) (by decide) (by decide)
      have w : ∀ b', b' ≠ 0 → b' ≠ 7 → b' ≠ 8 → b' ≠ 9 → b' ≠ 10 → ∀ j, s2 V 0 4 0 b' j = blkS S k a b b' j := fun b' a0 a7 a8 a9 a10 j => ua b' j a0 a7 a8 a9 a10
      have e1 := w 1 (by decide) (by decide) (by decide) (by decide) (by decide)
      have e2 := w 2 (by decide) (by decide) (by decide) (by decide) (by decide)
      have e3 := w 3 (by decide) (by decide) (by decide) (by decide) (by decide)
      have e4 := w 4 (by decide) (by decide) (by decide) (by decide) (by decide)
      have e5 := w 5 (by decide) (by decide) (by decide) (by decide) (by decide)
      have e6 := w 6 (by decide) (by decide) (by decide) (by decide) (by decide)
      have hsame : SameQ (blkS S k a b) (s2 V 0 4 0) := SameQ.of f0 (fun j _ _ => ⟨e4 j, fun _ => ⟨e5 j, e6 j⟩⟩)
      refine rel_blocks h (fun b' j a4 a5 a6 a7 a8 a9 a10 _ x2 x3 x4 => by rw [uo b' j x4 a7 a8 a9 a10 x2 x3, blkS_n S k a b a4 a5 a6]) (fun b' j a4 a5 a6 a7 a8 a9 x2 => by rw [hs' b' j a7 a8 a9 x2, blkS_n M k a b a4 a5 a6]) (fun j j0 j1 => ?_) ?_ (fun q => by rw [s2_eq] at q; omega)
      · rw [e4, e5, e6, hs'.a 4, hs'.a 5, hs'.a 6, blkS_4, blkS_4, blkS_5, blkS_5, blkS_6, blkS_6]
        by_cases q : j = k
        · rw [if_pos q, if_pos q, if_pos q, if_pos q, if_pos q, if_pos q]; exact ⟨rfl, fun _ => ⟨rfl, rfl⟩⟩
        · rw [if_neg q, if_neg q, if_neg q, if_neg q, if_neg q, if_neg q]; exact hk4 j j0 j1
      · show FQ _ _ _ _
        rw [hsame.FQ]
        refine (FQ_iff (fun i => ?_) (fun i _ => ⟨(e2 i).symm, (e3 i).symm⟩)).mp d
        show (0 ≤ i ∧ i < blkS S k a b 0 1 ∧ blkS S k a b 1 i = 1) ↔ (0 ≤ i ∧ i < s2 V 0 4 0 0 1 ∧ s2 V 0 4 0 1 i = 1)
        rw [f1, e1]
theorem op_unblock (h : Rel S M) {k : Int} (h1 : (0 ≤ k ∧ k < 4 ∧ S 4 k = 1 ∧ z = 1 ∧ u = s2 (s2 S 4 k 0) 0 4 0) ∨ (¬ (0 ≤ k ∧ k < 4 ∧ S 4 k = 1) ∧ z = 0 ∧ u = S)) (h2 : (0 ≤ k ∧ k < 4 ∧ M 4 k = 1 ∧ z' = 1 ∧ v = s2 M 4 k 0) ∨ (¬ (0 ≤ k ∧ k < 4 ∧ M 4 k = 1) ∧ z' = 0 ∧ v = M)) : z = z' ∧ Rel u v := by
  have hk4 := h.2.2.2.2.2.2.1
  rcases h1 with ⟨a1, a2, a3, rfl, rfl⟩ | ⟨a, rfl, rfl⟩ <;> rcases h2 with ⟨b1, b2, b3, rfl, rfl⟩ | ⟨b, rfl, rfl⟩
  · refine ⟨rfl, ?_⟩
    have u4 : ∀ j, s2 (s2 S 4 k 0) 0 4 0 4 j = if j = k then 0 else S 4 j := by
      intro j
      rw [s2_o (by decide)]
      by_cases e : j = k
      · rw [e, s2_eq, if_pos rfl]
      · rw [s2_ne (fun q => e q.2), if_neg e]
    have v4 : ∀ j, s2 M 4 k 0 4 j = if j = k then 0 else M 4 j := by
      intro j
      by_cases e : j = k
      · rw [e, s2_eq, if_pos rfl]
      · rw [s2_ne (fun q => e q.2), if_neg e]
    have uo : ∀ b' j, ¬ (b' = 0 ∧ j = 4) → b' ≠ 4 → s2 (s2 S 4 k 0) 0 4 0 b' j = S b' j := fun b' j x4 a4 => by rw [s2_ne x4, s2_o a4]
    have ua : ∀ b', b' ≠ 0 → b' ≠ 4 → ∀ j, s2 (s2 S 4 k 0) 0 4 0 b' j = S b' j := fun b' a0 a4 j => uo b' j (fun q => a0 q.1) a4
    have e5 := ua 5 (by decide) (by decide)
    have e6 := ua 6 (by decide) (by decide)
    have f0 := uo 0 0 (by decide) (by decide)
    have f1 := uo 0 1 (by decide) (by decide)
    refine rel_blocks h (fun b' j a4 _ _ _ _ _ _ _ _ _ x4 => uo b' j x4 a4) (fun b' j a4 _ _ _ _ _ _ => s2_o a4) (fun j j0 j1 => ?_) ?_ (fun q => by rw [s2_eq] at q; omega)
    · rw [u4, v4, e5, e6, s2_o (by decide), s2_o (by decide)]
      by_cases e : j = k
      · rw [if_pos e, if_pos e]; exact ⟨rfl, fun q => by omega⟩
      · rw [if_neg e, if_neg e]; exact hk4 j j0 j1
    · obtain ⟨s, hs⟩ := h.fb
      refine ⟨s, plan_congr (fun i hi => ?_) (fun i _ => ⟨ua 2 (by decide) (by decide) i, ua 3 (by decide) (by decide) i⟩) f0 (fun t ht => ?_) hs⟩
      · obtain ⟨q1, q2, q3⟩ := hi
        rw [f1] at q2
        rw [ua 1 (by decide) (by decide)] at q3
        exact ⟨q1, q2, q3⟩
      · refine ⟨ht.1, by rw [f0]; exact ht.2.1, fun j j0 j1 j2 => ?_⟩
        rw [u4] at j2
        rw [e5, e6, f0]
        by_cases e : j = k
        · rw [if_pos e] at j2; omega
        · rw [if_neg e] at j2
          exact ht.2.2 j j0 j1 j2
  · exact absurd ⟨a1, a2, by rw [(hk4 k a1 a2).1]; exact a3⟩ b
  · exact absurd ⟨b1, b2, by rw [← (hk4 k b1 b2).1]; exact b3⟩ a
  · exact ⟨rfl, h⟩
theorem op_jobs (h : Rel S M) (ho : okP S) (h1 : u = S ∧ z = jb (S 1) (S 0 1).toNat) (h2 : askMI M v 0 40 6 ∧ z' = v 0 2) : z = z' ∧ Rel u v := by
  obtain ⟨rfl, rfl⟩ := h1
  refine ⟨?_, h.scM h2.1.sc⟩
  rw [h2.2, h2.1.2.1]
  have hb := ho.2.1
  refine hb_ext (jb_pos _ _) (jb_pos _ _) (fun j j0 => ?_)
  rw [hb_jb _ _ j0, hb_jb _ _ j0]
  constructor
  · rintro ⟨a, b⟩
    exact ⟨by omega, by rw [h.2.2.1 j j0 (by omega)]; exact b⟩
  · rintro ⟨a, b⟩
    rw [h.2.2.1 j j0 (by omega)] at b
    refine ⟨?_, b⟩
    refine Classical.byContradiction (fun hc => ?_)
    have := h.2.2.2.1 j (by omega) (by omega)
    omega
theorem op_release (h : Rel S M) (ho : okP S) {id : Int} (h1 : u = S ∧ ((holdsId S id ∧ z = S 2 id) ∨ (¬ holdsId S id ∧ z = -1))) (h2 : v = M ∧ ((thereId M id ∧ z' = M 2 id) ∨ (¬ thereId M id ∧ z' = -1))) : z = z' ∧ Rel u v := by
  obtain ⟨rfl, h1⟩ := h1
  obtain ⟨rfl, h2⟩ := h2
  refine ⟨?_, h⟩
  have ht := h.there ho id
  rcases h1 with ⟨a, rfl⟩ | ⟨a, rfl⟩ <;> rcases h2 with ⟨b, rfl⟩ | ⟨b, rfl⟩
  · exact (h.w2 a).symm
  · exact absurd (ht.mpr a) b
  · exact absurd (ht.mp b) a
  · rfl
theorem op_deadline (h : Rel S M) (ho : okP S) {id : Int} (h1 : u = S ∧ ((holdsId S id ∧ z = S 3 id) ∨ (¬ holdsId S id ∧ z = -1))) (h2 : v = M ∧ ((thereId M id ∧ z' = M 3 id) ∨ (¬ thereId M id ∧ z' = -1))) : z = z' ∧ Rel u v := by
  obtain ⟨rfl, h1⟩ := h1
  obtain ⟨rfl, h2⟩ := h2
  refine ⟨?_, h⟩
  have ht := h.there ho id
  rcases h1 with ⟨a, rfl⟩ | ⟨a, rfl⟩ <;> rcases h2 with ⟨b, rfl⟩ | ⟨b, rfl⟩
  · exact (h.w3 a).symm
  · exact absurd (ht.mpr a) b
  · exact absurd (ht.mp b) a
  · rfl
theorem op_end (h : Rel S M) (ho : okP S) (h1 : Sc S u ∧ 0 ≤ z ∧ FQ S (BS S) (S 2) (fun i => min (S 3 i) z) ∧ ∀ d, 0 ≤ d → FQ S (BS S) (S 2) (fun i => min (S 3 i) d) → z ≤ d) (h2 : ScM M v ∧ ((0 ≤ z' ∧ z' ≤ 40 ∧ endM M z' ∧ ∀ e, 0 ≤ e → e < z' → ¬ endM M e) ∨ (z' = 40 ∧ ∀ e, 0 ≤ e → e ≤ 40 → ¬ endM M e))) : z = z' ∧ Rel u v := by
  have he : ∀ e, endM M e ↔ FQ S (BS S) (S 2) (fun i => min (S 3 i) e) := fun e => h.fq ho (fun i hi => by
    have := h.wf i hi
    rw [h.w2 hi, h.w3 hi]
    exact ⟨by omega, rfl⟩)
  refine ⟨?_, (h.sc h1.1).scM h2.1⟩
  obtain ⟨-, a1, a2, a3⟩ := h1
  rcases h2.2 with ⟨b1, b2, b3, b4⟩ | ⟨b1, b2⟩
  · have := a3 z' b1 ((he z').mp b3)
    refine Classical.byContradiction (fun hc => b4 z a1 (by omega) ((he z).mpr a2))
  · exact absurd ((he 40).mpr (FQ_40.mpr h.fb)) (b2 40 (by omega) (by omega))
theorem op_begin (h : Rel S M) (ho : okP S) (h1 : Sc S u ∧ lateB S z) (h2 : ScM M v ∧ ((0 ≤ z' ∧ z' ≤ 40 ∧ begM M z' ∧ ∀ e, z' < e → e ≤ 40 → ¬ begM M e) ∨ (z' = 0 ∧ ∀ e, 0 ≤ e → e ≤ 40 → ¬ begM M e))) : z = z' ∧ Rel u v := by
  have he : ∀ e, begM M e ↔ FR S e := fun e => h.fq ho (fun i hi => by
    have := h.wf i hi
    rw [h.w2 hi, h.w3 hi]
    exact ⟨rfl, by omega⟩)
  refine ⟨?_, (h.sc h1.1).scM h2.1⟩
  obtain ⟨-, a1, a2, a3, a4⟩ := h1
  rcases h2.2 with ⟨b1, b2, b3, b4⟩ | ⟨b1, b2⟩
  · refine Classical.byContradiction (fun hc => ?_)
    rcases (show z < z' ∨ z' < z by omega) with q | q
    · exact a4 z' q b2 ((he z').mp b3)
    · exact b4 z q a2 ((he z).mpr a3)
  · exact absurd ((he z).mpr a3) (b2 z a1 a2)
theorem Rel.earl (h : Rel S M) (ho : okP S) {pl pl' : Int → Int} {pins id : Int} (hid : BS S id) (hp : ∀ i, BS S i → i < pins → i ≠ id → pl' i = pl i) (hq : earlG M (BM M) pl' pins id z) : earlG S (BS S) pl pins id z := by
  obtain ⟨a, b, c, d⟩ := hq
  rw [h.w2 hid] at a d
  rw [h.w3 hid, h.1] at b
  exact ⟨a, b, (h.feg ho hp).mp c, fun m m0 m1 q => d m m0 m1 ((h.feg ho hp).mpr q)⟩
theorem earl_uniq {P : Int → Prop} {pl : Int → Int} {pins id : Int} (h1 : earlG S P pl pins id z) (h2 : earlG S P pl pins id z') : z = z' := by
  refine Classical.byContradiction (fun hc => ?_)
  rcases (show z < z' ∨ z' < z by omega) with q | q
  · exact h2.2.2.2 z h1.1 q h1.2.2.1
  · exact h1.2.2.2 z' h2.1 q h2.2.2.1
theorem op_estart (h : Rel S M) (ho : okP S) {id : Int} (h1 : (¬ holdsId S id ∧ z = -1 ∧ u = S) ∨ (holdsId S id ∧ Sc S u ∧ earlQ S 0 id z)) (h2 : (¬ thereId M id ∧ z' = -1 ∧ v = M) ∨ (thereId M id ∧ ScM M v ∧ (earlG M (BM M) (M 11) 0 id z' ∨ (z' = -1 ∧ ∀ m, M 2 id ≤ m → m + M 0 0 ≤ M 3 id → ¬ FEg M (BM M) (M 11) 0 id m)))) : z = z' ∧ Rel u v := by
  have ht := h.there ho id
  have hp : ∀ i, BS S i → i < 0 → i ≠ id → M 11 i = S 11 i := fun i hi q => by have := hi.1; omega
  rcases h1 with ⟨a, rfl, rfl⟩ | ⟨a, hs, hq⟩ <;> rcases h2 with ⟨b, rfl, rfl⟩ | ⟨b, hs', hq'⟩
  · exact ⟨rfl, h⟩
  · exact absurd (ht.mp b) a
  · exact absurd (ht.mpr a) b
  · refine ⟨?_, (h.sc hs).scM hs'⟩
    rcases hq' with hq' | ⟨-, hno⟩
    · exact earl_uniq hq (h.earl ho a hp hq')
    · refine absurd ((h.feg ho hp).mpr hq.2.2.1) (hno z ?_ ?_)
      · rw [h.w2 a]; exact hq.1
      · rw [h.w3 a, h.1]; exact hq.2.1
theorem op_lstart (h : Rel S M) (ho : okP S) {id : Int} (h1 : (¬ holdsId S id ∧ z = -1 ∧ u = S) ∨ (holdsId S id ∧ Sc S u ∧ lateQ S id z)) (h2 : (¬ thereId M id ∧ z' = -1 ∧ v = M) ∨ (thereId M id ∧ ScM M v ∧ ((M 2 id ≤ z' ∧ z' + M 0 0 ≤ M 3 id ∧ FEg M (BM M) (M 11) 0 id z' ∧ ∀ m, z' < m → m + M 0 0 ≤ M 3 id → ¬ FEg M (BM M) (M 11) 0 id m) ∨ (z' = -1 ∧ ∀ m, M 2 id ≤ m → m + M 0 0 ≤ M 3 id → ¬ FEg M (BM M) (M 11) 0 id m)))) : z = z' ∧ Rel u v := by
  have ht := h.there ho id
  have hp : ∀ i, BS S i → i < 0 → i ≠ id → M 11 i = S 11 i := fun i hi q => by have := hi.1; omega
  rcases h1 with ⟨a, rfl, rfl⟩ | ⟨a, hs, hq⟩ <;> rcases h2 with ⟨b, rfl, rfl⟩ | ⟨b, hs', hq'⟩
  · exact ⟨rfl, h⟩
  · exact absurd (ht.mp b) a
  · exact absurd (ht.mpr a) b
  · refine ⟨?_, (h.sc hs).scM hs'⟩
    obtain ⟨x1, x2, x3, x4⟩ := hq
    have e2 := h.w2 a
    have e3 := h.w3 a
    have e0 := h.1
    rcases hq' with ⟨y1, y2, y3, y4⟩ | ⟨-, hno⟩
    · refine Classical.byContradiction (fun hc => ?_)
      rcases (show z < z' ∨ z' < z by omega) with q | q
      · exact x4 z' q (by omega) ((h.feg ho hp).mp y3)
      · exact y4 z q (by omega) ((h.feg ho hp).mpr x3)
    · exact absurd ((h.feg ho hp).mpr x3) (hno z (by omega) (by omega))
theorem op_open (h : Rel S M) (ho : okP S) {t : Int} (h1 : Sc S u ∧ ((z = 1 ∧ 0 ≤ t ∧ t + S 0 0 ≤ 40 ∧ FX S 6 t (t + S 0 0)) ∨ (z = 0 ∧ ¬ (0 ≤ t ∧ t + S 0 0 ≤ 40 ∧ FX S 6 t (t + S 0 0))))) (h2 : ScM M v ∧ ((z' = 1 ∧ 0 ≤ t ∧ t + M 0 0 ≤ 40 ∧ FXM M 6 t (t + M 0 0)) ∨ (z' = 0 ∧ ¬ (0 ≤ t ∧ t + M 0 0 ≤ 40 ∧ FXM M 6 t (t + M 0 0))))) : z = z' ∧ Rel u v := by
  refine ⟨?_, (h.sc h1.1).scM h2.1⟩
  have h2 := h2.2
  rw [h.1, h.fx ho] at h2
  rcases h1.2 with ⟨rfl, a⟩ | ⟨rfl, a⟩ <;> rcases h2 with ⟨rfl, b⟩ | ⟨rfl, b⟩
  · rfl
  · exact absurd a b
  · exact absurd b a
  · rfl
theorem op_plan (h : Rel S M) (ho : okP S) (hou : okP u) {id : Int} (h1 : (¬ holdsId S id ∧ z = -1 ∧ u = S) ∨ (holdsId S id ∧ Scp S u ∧ u 0 4 = 1 ∧ PlanOk u ∧ z = u 11 id)) (h2 : (¬ thereId M id ∧ z' = -1 ∧ v = M) ∨ (thereId M id ∧ ScM M v ∧ plQ M id z')) : z = z' ∧ Rel u v := by
  have ht := h.there ho id
  rcases h1 with ⟨a, rfl, rfl⟩ | ⟨a, hs, -, hpo, rfl⟩ <;> rcases h2 with ⟨b, rfl, rfl⟩ | ⟨b, hs', pl, hpl, rfl⟩
  · exact ⟨rfl, h⟩
  · exact absurd (ht.mp b) a
  · exact absurd (ht.mpr a) b
  · have hR : Rel u M := h.scp hs (fun _ => hpo)
    refine ⟨?_, hR.scM hs'⟩
    have hid : BS u id := (hs.BS id).mpr a
    have key : ∀ (n : Nat) (i : Int), i < n → BS u i → i ≤ id → u 11 i = pl i := by
      intro n
      induction n with
      | zero => intro i q hi; have := hi.1; omega
      | succ n ih =>
        intro i q hi hle
        exact earl_uniq (hpo i hi) (hR.earl hou hi (fun j hj q2 _ => (ih j (by omega) hj (by omega)).symm) (hpl i ((hR.bs hou i).mpr hi) hle))
    exact key (id.toNat + 1) id (by have := hid.1; omega) hid (Int.le_refl _)
end Ops
end
section
-- THE CONSTRUCTORS: printed by gen/initgen.py
def clamp6 (x : Int) : Int := if x < 1 then 1 else if 6 < x then 6 else x
/-- the state of a new object, planner or model -/
def S0 (a b : Int) : St := fun c i => if c = 0 ∧ i = 0 then clamp6 a else if c = 0 ∧ i = 1 then clamp6 b else 0
section Clamp
variable {p : Program} {l : Launch} {e : Env} {R : Room} {s : State} {m : MethodId} {args : Array Value} {below : List Frame} {meth : Method} {c : Code} {H : Heap} {locs : List Loc} {cells slots : Nat} {Q : State → Prop}
theorem w_clamp {cc : ByteArray} {ls : Array Slot} {x : Int} {rest : List Value} {pc i : Nat} {k : Fin 4} (hx : p.tables.exec = Jvm.exec) (hb : c.code = cc) (x1 : -2147483648 ≤ x) (x2 : x ≤ 2147483647) (hl : ls[i]? = some (.val (vI x))) (hk : (k : Nat) = i) (d0 : decode cc pc = .ok (.iload_n k, 1)) (d1 : decode cc (pc + 1) = .ok (.iconst 1, 1)) (d2 : decode cc (pc + 2) = .ok (.if_icmp .ge 7, 3)) (d5 : decode cc (pc + 5) = .ok (.iconst 1, 1)) (d6 : decode cc (pc + 6) = .ok (.goto 15, 3)) (d9 : decode cc (pc + 9) = .ok (.iload_n k, 1)) (d10 : decode cc (pc + 10) = .ok (.bipush 6, 2)) (d12 : decode cc (pc + 12) = .ok (.if_icmp .le 8, 3)) (d15 : decode cc (pc + 15) = .ok (.bipush 6, 2)) (d17 : decode cc (pc + 17) = .ok (.goto 4, 3)) (d20 : decode cc (pc + 20) = .ok (.iload_n k, 1))
    (kk : W p l e R s m args below meth c H locs cells slots Q (F0 m (pc + 21) ls (vI (clamp6 x) :: rest))) : W p l e R s m args below meth c H locs cells slots Q (F0 m pc ls rest) := by
  refine lv_iload_n (x := Int32.ofInt x) hx hb d0 hk hl ?_
  refine lv_iconst (v := Int32.ofInt 1) hx hb d1 (by decide) ?_
  refine lv_icmp_ge (tgt := pc + 9) hx hb d2 (by omega) (fun q1 => ?_) (fun q1 => ?_)
  · rw [oi_le (by omega) (by omega) x1 x2] at q1
    refine lv_iload_n (x := Int32.ofInt x) hx hb d9 hk hl ?_
    refine lv_bipush (v := Int32.ofInt 6) hx hb d10 (by decide) ?_
    refine lv_icmp_le (tgt := pc + 20) hx hb d12 (by omega) (fun q2 => ?_) (fun q2 => ?_)
    · rw [oi_le x1 x2 (by omega) (by omega)] at q2
      refine lv_iload_n (x := Int32.ofInt x) hx hb d20 hk hl ?_
      rw [show clamp6 x = x by unfold clamp6; rw [if_neg (by omega), if_neg (by omega)]] at kk
      exact kk
    · rw [oi_le x1 x2 (by omega) (by omega)] at q2
      refine lv_bipush (v := Int32.ofInt 6) hx hb d15 (by decide) ?_
      refine lv_goto (tgt := pc + 21) hx hb d17 (by omega) ?_
      rw [show clamp6 x = 6 by unfold clamp6; rw [if_neg (by omega), if_pos (by omega)]] at kk
      exact kk
  · rw [oi_le (by omega) (by omega) x1 x2] at q1
    refine lv_iconst (v := Int32.ofInt 1) hx hb d5 (by decide) ?_
    refine lv_goto (tgt := pc + 21) hx hb d6 (by omega) ?_
    rw [show clamp6 x = 1 by unfold clamp6; rw [if_pos (by omega)]] at kk
    exact kk
end Clamp
theorem gw_oi_P : Cond.methodLink R_P 1 objectInit ∈ gw_tbl := gw_of (lw_in1 8 rfl) rfl
theorem gw_oi_M : Cond.methodLink R_M 1 objectInit ∈ gw_tbl := gw_of (lw_in1 219 rfl) rfl
theorem gw_oinst : Cond.instanceMethod objectInit ∈ gw_tbl := gw_of (lw_in1 9 rfl) rfl
theorem gw_ocode : Cond.code objectInit ⟨#[0xb1]⟩ 1 none ∈ gw_tbl := gw_of (lw_in1 10 rfl) rfl
theorem gw_arr_Z : Cond.arrayClass .boolean ∈ gw_tbl := gw_of (lw_in1 60 rfl) rfl
theorem gw_arr_B : Cond.arrayClass .byte ∈ gw_tbl := gw_of (lw_in1 61 rfl) rfl
theorem gw_arr_I : Cond.arrayClass .int ∈ gw_tbl := gw_of (lw_in2 17 rfl) rfl
/-- the fields of a new object -/
abbrev fsP0 : List Value := [vI 0, vI 0, .null, .null, .null, .null, .null, .null, vI 0, .null, .null, .null, .null, vI 0, vI 0, .null]
set_option maxHeartbeats 4000000 in
set_option maxRecDepth 100000 in
theorem c_P_init (l : Launch) (dC : Nat → ClassId) (dI : Nat → Nat → Nat) (h0 sz : Nat) (a b : Int) (a1 : -2147483648 ≤ a) (a2 : a ≤ 2147483647) (b1 : -2147483648 ≤ b) (b2 : b ≤ 2147483647) : Met l y_P_init (.code y_P_init b_P_init 3 none :: gw_tbl) { frames := 1, cells := 11, slots := 116, locals := 20 } (va_Pc [.ref h0, vI a, vI b] (fun U => U.heap.size = sz ∧ va_P (dC, dI) classes [(h0, .inr (0, fsP0))] U.heap ∧ va_K (dC, dI) classes [] U ∧ va_D (fun _ => True) [(h0, .inr (0, fsP0))])) (va_Qv (fun w : (Nat → Nat) × ClassId × ClassId => w.1 0 = h0) (fun w t => va_P (dC, dI) classes (PW ((dC, dI), w.1, w.2.1, w.2.2, 0) (S0 a b)) t.heap ∧ va_K (dC, dI) classes [(w.2.1, .boolean), (w.2.2, .byte)] t ∧ va_D (va_A [(h0, .inr (0, fsP0))] sz) (PW ((dC, dI), w.1, w.2.1, w.2.2, 0) (S0 a b))) (va_A [(h0, .inr (0, fsP0))] sz)) 11 116 (va_A [(h0, .inr (0, fsP0))] sz) := by
  refine Met.ofW (cc := b_P_init) (maxL := 3) (ret := none) (by decide) rfl ?_
  intro p e s m args below meth c s₁ B hml hv
  obtain ⟨rfl, hsz, hP, hK, hD0⟩ := hv
  have hx := B.exec
  have hb := B.bytes
  have hr := B.returns
  have hts0 := atoms_spec (ws := (Cond.code y_P_init b_P_init 3 none :: gw_tbl)) B.pre
  have hts : ∀ w ∈ gw_tbl, w.before [Value.ref h0, vI a, vI b].toArray s = true := fun w hw => hts0 w (List.mem_cons_of_mem _ hw)
  have hown : s.vm.findClass R_P = some m.cls := findClass_of_methodNamed B.named
  have hlocks := B.notSynchronized
  have hin : meth.name = "<init>" := (name_of_methodNamed B.named B.method).1
  subst hsz
  have hD := hD0.self (sz := s.heap.size)
  generalize hAe : va_A [(h0, .inr (0, fsP0))] s.heap.size = A at hD ⊢
  have hA : ∀ q : Nat, s.heap.size ≤ q → A q := fun q h => by rw [← hAe]; exact Or.inr h
  have hS : va_S A s.heap s.heap [] := va_S.rf
  have hl := lv_entry ([.ref h0, vI a, vI b]) (n := 3) (Nat.le_of_ble_eq_true rfl)
  rw [lg_entry_eq]
  generalize (lg_sl ([.ref h0, vI a, vI b]) ++ List.replicate (3 - (lg_sl ([.ref h0, vI a, vI b])).length) Slot.unset).toArray = ls at hl ⊢
  have hl : lv_has ls 3 [(0, .ref h0), (1, vI a), (2, vI b)] := hl
  refine lv_aload_n hx hb d_P_init_0 rfl (lv_at hl 0 rfl) ?_
  refine W.objInit hx hb hown (hts (.methodLink R_P 1 objectInit) gw_oi_P) (hts (.instanceMethod objectInit) gw_oinst) (hts _ gw_ocode) rfl (by rw [hml]; exact hl.1) rfl d_P_init_1 (Nat.le_of_ble_eq_true rfl) (Nat.le_of_ble_eq_true rfl) ?_
  refine W.eq (g2 := F0 m 4 ls []) rfl ?_
  refine lv_aload_n hx hb d_P_init_4 rfl (lv_at hl 0 rfl) ?_
  refine lv_bipush (v := Int32.ofInt 8) hx hb d_P_init_5 (by decide) ?_
  refine va_newa (atype := .boolean) (ty := .boolean) (a0 := (8, .inl (fun _ => Int32.ofInt 0))) (N' := 8) hx hb (hts (.arrayClass .boolean) gw_arr_Z) rfl hK hP hD hS hA (fun cA => by rw [vp_cell_i]; rfl) (by decide) (by decide) (by decide) (Nat.le_of_ble_eq_true rfl) (Nat.le_of_ble_eq_true rfl) d_P_init_7 (fun q1 c1 H hK hP hD hS => ?_)
  have hK : va_K (dC, dI) classes [(c1, .boolean)] s := hK
  have hP : va_P (dC, dI) classes [(h0, .inr (0, [vI 0, vI 0, .null, .null, .null, .null, .null, .null, vI 0, .null, .null, .null, .null, vI 0, vI 0, .null])), (q1, .inl (c1, 8, .inl (fun _ => Int32.ofInt 0)))] H := hP
  have hD : va_D A [(h0, .inr (0, [vI 0, vI 0, .null, .null, .null, .null, .null, .null, vI 0, .null, .null, .null, .null, vI 0, vI 0, .null])), (q1, .inl (c1, 8, .inl (fun _ => Int32.ofInt 0)))] := hD
  refine W.widen (k := 1) (n := 8) (Nat.le_refl _) (Nat.le_refl _) ?_
  refine va_putF (D := (dC, dI)) (ci := 0) (v := .ref q1) (ty := .array .boolean) (C := R_P) (T := F_P) (N := 16) hx hb hts ig_P t_P t_P_ok n_P hown hK hP hD hS 0 rfl rfl 2 (by decide) (hts (.fieldLink R_P 7 "EqualJobPlanner" "used" "[Z") gf_P_7) (fun _ h9 => h9) rfl hin rfl (by decide +kernel) rfl rfl (Nat.le_of_ble_eq_true rfl) d_P_init_9 (fun H locs hP hD hS => ?_)
  have hP : va_P (dC, dI) classes [(h0, .inr (0, [vI 0, vI 0, .ref q1, .null, .null, .null, .null, .null, vI 0, .null, .null, .null, .null, vI 0, vI 0, .null])), (q1, .inl (c1, 8, .inl (fun _ => Int32.ofInt 0)))] H := hP
  have hD : va_D A [(h0, .inr (0, [vI 0, vI 0, .ref q1, .null, .null, .null, .null, .null, vI 0, .null, .null, .null, .null, vI 0, vI 0, .null])), (q1, .inl (c1, 8, .inl (fun _ => Int32.ofInt 0)))] := hD
  refine lv_aload_n hx hb d_P_init_12 rfl (lv_at hl 0 rfl) ?_
  refine lv_bipush (v := Int32.ofInt 8) hx hb d_P_init_13 (by decide) ?_
  refine va_newa (atype := .byte) (ty := .byte) (a0 := (8, .inl (fun _ => Int32.ofInt 0))) (N' := 8) hx hb (hts (.arrayClass .byte) gw_arr_B) rfl hK hP hD hS hA (fun cA => by rw [vp_cell_i]; rfl) (by decide) (by decide) (by decide) (Nat.le_of_ble_eq_true rfl) (Nat.le_of_ble_eq_true rfl) d_P_init_15 (fun q2 c2 H hK hP hD hS => ?_)
  have hK : va_K (dC, dI) classes [(c1, .boolean), (c2, .byte)] s := hK
  have hP : va_P (dC, dI) classes [(h0, .inr (0, [vI 0, vI 0, .ref q1, .null, .null, .null, .null, .null, vI 0, .null, .null, .null, .null, vI 0, vI 0, .null])), (q1, .inl (c1, 8, .inl (fun _ => Int32.ofInt 0))), (q2, .inl (c2, 8, .inl (fun _ => Int32.ofInt 0)))] H := hP
  have hD : va_D A [(h0, .inr (0, [vI 0, vI 0, .ref q1, .null, .null, .null, .null, .null, vI 0, .null, .null, .null, .null, vI 0, vI 0, .null])), (q1, .inl (c1, 8, .inl (fun _ => Int32.ofInt 0))), (q2, .inl (c2, 8, .inl (fun _ => Int32.ofInt 0)))] := hD
  refine W.widen (k := 2) (n := 16) (Nat.le_refl _) (Nat.le_refl _) ?_
  refine va_putF (D := (dC, dI)) (ci := 0) (v := .ref q2) (ty := .array .byte) (C := R_P) (T := F_P) (N := 16) hx hb hts ig_P t_P t_P_ok n_P hown hK hP hD hS 0 rfl rfl 3 (by decide) (hts (.fieldLink R_P 13 "EqualJobPlanner" "from" "[B") gf_P_13) (fun _ h9 => h9) rfl hin rfl (by decide +kernel) rfl rfl (Nat.le_of_ble_eq_true rfl) d_P_init_17 (fun H locs hP hD hS => ?_)
  have hP : va_P (dC, dI) classes [(h0, .inr (0, [vI 0, vI 0, .ref q1, .ref q2, .null, .null, .null, .null, vI 0, .null, .null, .null, .null, vI 0, vI 0, .null])), (q1, .inl (c1, 8, .inl (fun _ => Int32.ofInt 0))), (q2, .inl (c2, 8, .inl (fun _ => Int32.ofInt 0)))] H := hP
  have hD : va_D A [(h0, .inr (0, [vI 0, vI 0, .ref q1, .ref q2, .null, .null, .null, .null, vI 0, .null, .null, .null, .null, vI 0, vI 0, .null])), (q1, .inl (c1, 8, .inl (fun _ => Int32.ofInt 0))), (q2, .inl (c2, 8, .inl (fun _ => Int32.ofInt 0)))] := hD
  refine lv_aload_n hx hb d_P_init_20 rfl (lv_at hl 0 rfl) ?_
  refine lv_bipush (v := Int32.ofInt 8) hx hb d_P_init_21 (by decide) ?_
  refine va_newa (atype := .byte) (ty := .byte) (a0 := (8, .inl (fun _ => Int32.ofInt 0))) (N' := 8) hx hb (hts (.arrayClass .byte) gw_arr_B) rfl hK hP hD hS hA (fun cA => by rw [vp_cell_i]; rfl) (by decide) (by decide) (by decide) (Nat.le_of_ble_eq_true rfl) (Nat.le_of_ble_eq_true rfl) d_P_init_23 (fun q3 c3 H hK hP hD hS => ?_)
  have hK : va_K (dC, dI) classes [(c1, .boolean), (c2, .byte), (c3, .byte)] s := hK
  have hP : va_P (dC, dI) classes [(h0, .inr (0, [vI 0, vI 0, .ref q1, .ref q2, .null, .null, .null, .null, vI 0, .null, .null, .null, .null, vI 0, vI 0, .null])), (q1, .inl (c1, 8, .inl (fun _ => Int32.ofInt 0))), (q2, .inl (c2, 8, .inl (fun _ => Int32.ofInt 0))), (q3, .inl (c3, 8, .inl (fun _ => Int32.ofInt 0)))] H := hP
  have hD : va_D A [(h0, .inr (0, [vI 0, vI 0, .ref q1, .ref q2, .null, .null, .null, .null, vI 0, .null, .null, .null, .null, vI 0, vI 0, .null])), (q1, .inl (c1, 8, .inl (fun _ => Int32.ofInt 0))), (q2, .inl (c2, 8, .inl (fun _ => Int32.ofInt 0))), (q3, .inl (c3, 8, .inl (fun _ => Int32.ofInt 0)))] := hD
  refine W.widen (k := 3) (n := 24) (Nat.le_refl _) (Nat.le_refl _) ?_
  refine va_putF (D := (dC, dI)) (ci := 0) (v := .ref q3) (ty := .array .byte) (C := R_P) (T := F_P) (N := 16) hx hb hts ig_P t_P t_P_ok n_P hown hK hP hD hS 0 rfl rfl 4 (by decide) (hts (.fieldLink R_P 17 "EqualJobPlanner" "until" "[B") gf_P_17) (fun _ h9 => h9) rfl hin rfl (by decide +kernel) rfl rfl (Nat.le_of_ble_eq_true rfl) d_P_init_25 (fun H locs hP hD hS => ?_)
  have hP : va_P (dC, dI) classes [(h0, .inr (0, [vI 0, vI 0, .ref q1, .ref q2, .ref q3, .null, .null, .null, vI 0, .null, .null, .null, .null, vI 0, vI 0, .null])), (q1, .inl (c1, 8, .inl (fun _ => Int32.ofInt 0))), (q2, .inl (c2, 8, .inl (fun _ => Int32.ofInt 0))), (q3, .inl (c3, 8, .inl (fun _ => Int32.ofInt 0)))] H := hP
  have hD : va_D A [(h0, .inr (0, [vI 0, vI 0, .ref q1, .ref q2, .ref q3, .null, .null, .null, vI 0, .null, .null, .null, .null, vI 0, vI 0, .null])), (q1, .inl (c1, 8, .inl (fun _ => Int32.ofInt 0))), (q2, .inl (c2, 8, .inl (fun _ => Int32.ofInt 0))), (q3, .inl (c3, 8, .inl (fun _ => Int32.ofInt 0)))] := hD
  refine lv_aload_n hx hb d_P_init_28 rfl (lv_at hl 0 rfl) ?_
  refine lv_iconst (v := Int32.ofInt 4) hx hb d_P_init_29 (by decide) ?_
  refine va_newa (atype := .boolean) (ty := .boolean) (a0 := (4, .inl (fun _ => Int32.ofInt 0))) (N' := 4) hx hb (hts (.arrayClass .boolean) gw_arr_Z) rfl hK hP hD hS hA (fun cA => by rw [vp_cell_i]; rfl) (by decide) (by decide) (by decide) (Nat.le_of_ble_eq_true rfl) (Nat.le_of_ble_eq_true rfl) d_P_init_30 (fun q4 c4 H hK hP hD hS => ?_)
  have hK : va_K (dC, dI) classes [(c1, .boolean), (c2, .byte), (c3, .byte), (c4, .boolean)] s := hK
  have hP : va_P (dC, dI) classes [(h0, .inr (0, [vI 0, vI 0, .ref q1, .ref q2, .ref q3, .null, .null, .null, vI 0, .null, .null, .null, .null, vI 0, vI 0, .null])), (q1, .inl (c1, 8, .inl (fun _ => Int32.ofInt 0))), (q2, .inl (c2, 8, .inl (fun _ => Int32.ofInt 0))), (q3, .inl (c3, 8, .inl (fun _ => Int32.ofInt 0))), (q4, .inl (c4, 4, .inl (fun _ => Int32.ofInt 0)))] H := hP
  have hD : va_D A [(h0, .inr (0, [vI 0, vI 0, .ref q1, .ref q2, .ref q3, .null, .null, .null, vI 0, .null, .null, .null, .null, vI 0, vI 0, .null])), (q1, .inl (c1, 8, .inl (fun _ => Int32.ofInt 0))), (q2, .inl (c2, 8, .inl (fun _ => Int32.ofInt 0))), (q3, .inl (c3, 8, .inl (fun _ => Int32.ofInt 0))), (q4, .inl (c4, 4, .inl (fun _ => Int32.ofInt 0)))] := hD
  refine W.widen (k := 4) (n := 28) (Nat.le_refl _) (Nat.le_refl _) ?_
  refine va_putF (D := (dC, dI)) (ci := 0) (v := .ref q4) (ty := .array .boolean) (C := R_P) (T := F_P) (N := 16) hx hb hts ig_P t_P t_P_ok n_P hown hK hP hD hS 0 rfl rfl 5 (by decide) (hts (.fieldLink R_P 20 "EqualJobPlanner" "blockUsed" "[Z") gf_P_20) (fun _ h9 => h9) rfl hin rfl (by decide +kernel) rfl rfl (Nat.le_of_ble_eq_true rfl) d_P_init_32 (fun H locs hP hD hS => ?_)
  have hP : va_P (dC, dI) classes [(h0, .inr (0, [vI 0, vI 0, .ref q1, .ref q2, .ref q3, .ref q4, .null, .null, vI 0, .null, .null, .null, .null, vI 0, vI 0, .null])), (q1, .inl (c1, 8, .inl (fun _ => Int32.ofInt 0))), (q2, .inl (c2, 8, .inl (fun _ => Int32.ofInt 0))), (q3, .inl (c3, 8, .inl (fun _ => Int32.ofInt 0))), (q4, .inl (c4, 4, .inl (fun _ => Int32.ofInt 0)))] H := hP
  have hD : va_D A [(h0, .inr (0, [vI 0, vI 0, .ref q1, .ref q2, .ref q3, .ref q4, .null, .null, vI 0, .null, .null, .null, .null, vI 0, vI 0, .null])), (q1, .inl (c1, 8, .inl (fun _ => Int32.ofInt 0))), (q2, .inl (c2, 8, .inl (fun _ => Int32.ofInt 0))), (q3, .inl (c3, 8, .inl (fun _ => Int32.ofInt 0))), (q4, .inl (c4, 4, .inl (fun _ => Int32.ofInt 0)))] := hD
  refine lv_aload_n hx hb d_P_init_35 rfl (lv_at hl 0 rfl) ?_
  refine lv_iconst (v := Int32.ofInt 4) hx hb d_P_init_36 (by decide) ?_
  refine va_newa (atype := .byte) (ty := .byte) (a0 := (4, .inl (fun _ => Int32.ofInt 0))) (N' := 4) hx hb (hts (.arrayClass .byte) gw_arr_B) rfl hK hP hD hS hA (fun cA => by rw [vp_cell_i]; rfl) (by decide) (by decide) (by decide) (Nat.le_of_ble_eq_true rfl) (Nat.le_of_ble_eq_true rfl) d_P_init_37 (fun q5 c5 H hK hP hD hS => ?_)
  have hK : va_K (dC, dI) classes [(c1, .boolean), (c2, .byte), (c3, .byte), (c4, .boolean), (c5, .byte)] s := hK
  have hP : va_P (dC, dI) classes [(h0, .inr (0, [vI 0, vI 0, .ref q1, .ref q2, .ref q3, .ref q4, .null, .null, vI 0, .null, .null, .null, .null, vI 0, vI 0, .null])), (q1, .inl (c1, 8, .inl (fun _ => Int32.ofInt 0))), (q2, .inl (c2, 8, .inl (fun _ => Int32.ofInt 0))), (q3, .inl (c3, 8, .inl (fun _ => Int32.ofInt 0))), (q4, .inl (c4, 4, .inl (fun _ => Int32.ofInt 0))), (q5, .inl (c5, 4, .inl (fun _ => Int32.ofInt 0)))] H := hP
  have hD : va_D A [(h0, .inr (0, [vI 0, vI 0, .ref q1, .ref q2, .ref q3, .ref q4, .null, .null, vI 0, .null, .null, .null, .null, vI 0, vI 0, .null])), (q1, .inl (c1, 8, .inl (fun _ => Int32.ofInt 0))), (q2, .inl (c2, 8, .inl (fun _ => Int32.ofInt 0))), (q3, .inl (c3, 8, .inl (fun _ => Int32.ofInt 0))), (q4, .inl (c4, 4, .inl (fun _ => Int32.ofInt 0))), (q5, .inl (c5, 4, .inl (fun _ => Int32.ofInt 0)))] := hD
  refine W.widen (k := 5) (n := 32) (Nat.le_refl _) (Nat.le_refl _) ?_
  refine va_putF (D := (dC, dI)) (ci := 0) (v := .ref q5) (ty := .array .byte) (C := R_P) (T := F_P) (N := 16) hx hb hts ig_P t_P t_P_ok n_P hown hK hP hD hS 0 rfl rfl 6 (by decide) (hts (.fieldLink R_P 23 "EqualJobPlanner" "blockFrom" "[B") gf_P_23) (fun _ h9 => h9) rfl hin rfl (by decide +kernel) rfl rfl (Nat.le_of_ble_eq_true rfl) d_P_init_39 (fun H locs hP hD hS => ?_)
  have hP : va_P (dC, dI) classes [(h0, .inr (0, [vI 0, vI 0, .ref q1, .ref q2, .ref q3, .ref q4, .ref q5, .null, vI 0, .null, .null, .null, .null, vI 0, vI 0, .null])), (q1, .inl (c1, 8, .inl (fun _ => Int32.ofInt 0))), (q2, .inl (c2, 8, .inl (fun _ => Int32.ofInt 0))), (q3, .inl (c3, 8, .inl (fun _ => Int32.ofInt 0))), (q4, .inl (c4, 4, .inl (fun _ => Int32.ofInt 0))), (q5, .inl (c5, 4, .inl (fun _ => Int32.ofInt 0)))] H := hP
  have hD : va_D A [(h0, .inr (0, [vI 0, vI 0, .ref q1, .ref q2, .ref q3, .ref q4, .ref q5, .null, vI 0, .null, .null, .null, .null, vI 0, vI 0, .null])), (q1, .inl (c1, 8, .inl (fun _ => Int32.ofInt 0))), (q2, .inl (c2, 8, .inl (fun _ => Int32.ofInt 0))), (q3, .inl (c3, 8, .inl (fun _ => Int32.ofInt 0))), (q4, .inl (c4, 4, .inl (fun _ => Int32.ofInt 0))), (q5, .inl (c5, 4, .inl (fun _ => Int32.ofInt 0)))] := hD
  refine lv_aload_n hx hb d_P_init_42 rfl (lv_at hl 0 rfl) ?_
  refine lv_iconst (v := Int32.ofInt 4) hx hb d_P_init_43 (by decide) ?_
  refine va_newa (atype := .byte) (ty := .byte) (a0 := (4, .inl (fun _ => Int32.ofInt 0))) (N' := 4) hx hb (hts (.arrayClass .byte) gw_arr_B) rfl hK hP hD hS hA (fun cA => by rw [vp_cell_i]; rfl) (by decide) (by decide) (by decide) (Nat.le_of_ble_eq_true rfl) (Nat.le_of_ble_eq_true rfl) d_P_init_44 (fun q6 c6 H hK hP hD hS => ?_)
  have hK : va_K (dC, dI) classes [(c1, .boolean), (c2, .byte), (c3, .byte), (c4, .boolean), (c5, .byte), (c6, .byte)] s := hK
  have hP : va_P (dC, dI) classes [(h0, .inr (0, [vI 0, vI 0, .ref q1, .ref q2, .ref q3, .ref q4, .ref q5, .null, vI 0, .null, .null, .null, .null, vI 0, vI 0, .null])), (q1, .inl (c1, 8, .inl (fun _ => Int32.ofInt 0))), (q2, .inl (c2, 8, .inl (fun _ => Int32.ofInt 0))), (q3, .inl (c3, 8, .inl (fun _ => Int32.ofInt 0))), (q4, .inl (c4, 4, .inl (fun _ => Int32.ofInt 0))), (q5, .inl (c5, 4, .inl (fun _ => Int32.ofInt 0))), (q6, .inl (c6, 4, .inl (fun _ => Int32.ofInt 0)))] H := hP
  have hD : va_D A [(h0, .inr (0, [vI 0, vI 0, .ref q1, .ref q2, .ref q3, .ref q4, .ref q5, .null, vI 0, .null, .null, .null, .null, vI 0, vI 0, .null])), (q1, .inl (c1, 8, .inl (fun _ => Int32.ofInt 0))), (q2, .inl (c2, 8, .inl (fun _ => Int32.ofInt 0))), (q3, .inl (c3, 8, .inl (fun _ => Int32.ofInt 0))), (q4, .inl (c4, 4, .inl (fun _ => Int32.ofInt 0))), (q5, .inl (c5, 4, .inl (fun _ => Int32.ofInt 0))), (q6, .inl (c6, 4, .inl (fun _ => Int32.ofInt 0)))] := hD
  refine W.widen (k := 6) (n := 36) (Nat.le_refl _) (Nat.le_refl _) ?_
  refine va_putF (D := (dC, dI)) (ci := 0) (v := .ref q6) (ty := .array .byte) (C := R_P) (T := F_P) (N := 16) hx hb hts ig_P t_P t_P_ok n_P hown hK hP hD hS 0 rfl rfl 7 (by decide) (hts (.fieldLink R_P 26 "EqualJobPlanner" "blockUntil" "[B") gf_P_26) (fun _ h9 => h9) rfl hin rfl (by decide +kernel) rfl rfl (Nat.le_of_ble_eq_true rfl) d_P_init_46 (fun H locs hP hD hS => ?_)
  have hP : va_P (dC, dI) classes [(h0, .inr (0, [vI 0, vI 0, .ref q1, .ref q2, .ref q3, .ref q4, .ref q5, .ref q6, vI 0, .null, .null, .null, .null, vI 0, vI 0, .null])), (q1, .inl (c1, 8, .inl (fun _ => Int32.ofInt 0))), (q2, .inl (c2, 8, .inl (fun _ => Int32.ofInt 0))), (q3, .inl (c3, 8, .inl (fun _ => Int32.ofInt 0))), (q4, .inl (c4, 4, .inl (fun _ => Int32.ofInt 0))), (q5, .inl (c5, 4, .inl (fun _ => Int32.ofInt 0))), (q6, .inl (c6, 4, .inl (fun _ => Int32.ofInt 0)))] H := hP
  have hD : va_D A [(h0, .inr (0, [vI 0, vI 0, .ref q1, .ref q2, .ref q3, .ref q4, .ref q5, .ref q6, vI 0, .null, .null, .null, .null, vI 0, vI 0, .null])), (q1, .inl (c1, 8, .inl (fun _ => Int32.ofInt 0))), (q2, .inl (c2, 8, .inl (fun _ => Int32.ofInt 0))), (q3, .inl (c3, 8, .inl (fun _ => Int32.ofInt 0))), (q4, .inl (c4, 4, .inl (fun _ => Int32.ofInt 0))), (q5, .inl (c5, 4, .inl (fun _ => Int32.ofInt 0))), (q6, .inl (c6, 4, .inl (fun _ => Int32.ofInt 0)))] := hD
  refine lv_aload_n hx hb d_P_init_49 rfl (lv_at hl 0 rfl) ?_
  refine lv_bipush (v := Int32.ofInt 8) hx hb d_P_init_50 (by decide) ?_
  refine va_newa (atype := .byte) (ty := .byte) (a0 := (8, .inl (fun _ => Int32.ofInt 0))) (N' := 8) hx hb (hts (.arrayClass .byte) gw_arr_B) rfl hK hP hD hS hA (fun cA => by rw [vp_cell_i]; rfl) (by decide) (by decide) (by decide) (Nat.le_of_ble_eq_true rfl) (Nat.le_of_ble_eq_true rfl) d_P_init_52 (fun q7 c7 H hK hP hD hS => ?_)
  have hK : va_K (dC, dI) classes [(c1, .boolean), (c2, .byte), (c3, .byte), (c4, .boolean), (c5, .byte), (c6, .byte), (c7, .byte)] s := hK
  have hP : va_P (dC, dI) classes [(h0, .inr (0, [vI 0, vI 0, .ref q1, .ref q2, .ref q3, .ref q4, .ref q5, .ref q6, vI 0, .null, .null, .null, .null, vI 0, vI 0, .null])), (q1, .inl (c1, 8, .inl (fun _ => Int32.ofInt 0))), (q2, .inl (c2, 8, .inl (fun _ => Int32.ofInt 0))), (q3, .inl (c3, 8, .inl (fun _ => Int32.ofInt 0))), (q4, .inl (c4, 4, .inl (fun _ => Int32.ofInt 0))), (q5, .inl (c5, 4, .inl (fun _ => Int32.ofInt 0))), (q6, .inl (c6, 4, .inl (fun _ => Int32.ofInt 0))), (q7, .inl (c7, 8, .inl (fun _ => Int32.ofInt 0)))] H := hP
  have hD : va_D A [(h0, .inr (0, [vI 0, vI 0, .ref q1, .ref q2, .ref q3, .ref q4, .ref q5, .ref q6, vI 0, .null, .null, .null, .null, vI 0, vI 0, .null])), (q1, .inl (c1, 8, .inl (fun _ => Int32.ofInt 0))), (q2, .inl (c2, 8, .inl (fun _ => Int32.ofInt 0))), (q3, .inl (c3, 8, .inl (fun _ => Int32.ofInt 0))), (q4, .inl (c4, 4, .inl (fun _ => Int32.ofInt 0))), (q5, .inl (c5, 4, .inl (fun _ => Int32.ofInt 0))), (q6, .inl (c6, 4, .inl (fun _ => Int32.ofInt 0))), (q7, .inl (c7, 8, .inl (fun _ => Int32.ofInt 0)))] := hD
  refine W.widen (k := 7) (n := 44) (Nat.le_refl _) (Nat.le_refl _) ?_
  refine va_putF (D := (dC, dI)) (ci := 0) (v := .ref q7) (ty := .array .byte) (C := R_P) (T := F_P) (N := 16) hx hb hts ig_P t_P t_P_ok n_P hown hK hP hD hS 0 rfl rfl 9 (by decide) (hts (.fieldLink R_P 29 "EqualJobPlanner" "askFrom" "[B") gf_P_29) (fun _ h9 => h9) rfl hin rfl (by decide +kernel) rfl rfl (Nat.le_of_ble_eq_true rfl) d_P_init_54 (fun H locs hP hD hS => ?_)
  have hP : va_P (dC, dI) classes [(h0, .inr (0, [vI 0, vI 0, .ref q1, .ref q2, .ref q3, .ref q4, .ref q5, .ref q6, vI 0, .ref q7, .null, .null, .null, vI 0, vI 0, .null])), (q1, .inl (c1, 8, .inl (fun _ => Int32.ofInt 0))), (q2, .inl (c2, 8, .inl (fun _ => Int32.ofInt 0))), (q3, .inl (c3, 8, .inl (fun _ => Int32.ofInt 0))), (q4, .inl (c4, 4, .inl (fun _ => Int32.ofInt 0))), (q5, .inl (c5, 4, .inl (fun _ => Int32.ofInt 0))), (q6, .inl (c6, 4, .inl (fun _ => Int32.ofInt 0))), (q7, .inl (c7, 8, .inl (fun _ => Int32.ofInt 0)))] H := hP
  have hD : va_D A [(h0, .inr (0, [vI 0, vI 0, .ref q1, .ref q2, .ref q3, .ref q4, .ref q5, .ref q6, vI 0, .ref q7, .null, .null, .null, vI 0, vI 0, .null])), (q1, .inl (c1, 8, .inl (fun _ => Int32.ofInt 0))), (q2, .inl (c2, 8, .inl (fun _ => Int32.ofInt 0))), (q3, .inl (c3, 8, .inl (fun _ => Int32.ofInt 0))), (q4, .inl (c4, 4, .inl (fun _ => Int32.ofInt 0))), (q5, .inl (c5, 4, .inl (fun _ => Int32.ofInt 0))), (q6, .inl (c6, 4, .inl (fun _ => Int32.ofInt 0))), (q7, .inl (c7, 8, .inl (fun _ => Int32.ofInt 0)))] := hD
  refine lv_aload_n hx hb d_P_init_57 rfl (lv_at hl 0 rfl) ?_
  refine lv_bipush (v := Int32.ofInt 8) hx hb d_P_init_58 (by decide) ?_
  refine va_newa (atype := .byte) (ty := .byte) (a0 := (8, .inl (fun _ => Int32.ofInt 0))) (N' := 8) hx hb (hts (.arrayClass .byte) gw_arr_B) rfl hK hP hD hS hA (fun cA => by rw [vp_cell_i]; rfl) (by decide) (by decide) (by decide) (Nat.le_of_ble_eq_true rfl) (Nat.le_of_ble_eq_true rfl) d_P_init_60 (fun q8 c8 H hK hP hD hS => ?_)
  have hK : va_K (dC, dI) classes [(c1, .boolean), (c2, .byte), (c3, .byte), (c4, .boolean), (c5, .byte), (c6, .byte), (c7, .byte), (c8, .byte)] s := hK
  have hP : va_P (dC, dI) classes [(h0, .inr (0, [vI 0, vI 0, .ref q1, .ref q2, .ref q3, .ref q4, .ref q5, .ref q6, vI 0, .ref q7, .null, .null, .null, vI 0, vI 0, .null])), (q1, .inl (c1, 8, .inl (fun _ => Int32.ofInt 0))), (q2, .inl (c2, 8, .inl (fun _ => Int32.ofInt 0))), (q3, .inl (c3, 8, .inl (fun _ => Int32.ofInt 0))), (q4, .inl (c4, 4, .inl (fun _ => Int32.ofInt 0))), (q5, .inl (c5, 4, .inl (fun _ => Int32.ofInt 0))), (q6, .inl (c6, 4, .inl (fun _ => Int32.ofInt 0))), (q7, .inl (c7, 8, .inl (fun _ => Int32.ofInt 0))), (q8, .inl (c8, 8, .inl (fun _ => Int32.ofInt 0)))] H := hP
  have hD : va_D A [(h0, .inr (0, [vI 0, vI 0, .ref q1, .ref q2, .ref q3, .ref q4, .ref q5, .ref q6, vI 0, .ref q7, .null, .null, .null, vI 0, vI 0, .null])), (q1, .inl (c1, 8, .inl (fun _ => Int32.ofInt 0))), (q2, .inl (c2, 8, .inl (fun _ => Int32.ofInt 0))), (q3, .inl (c3, 8, .inl (fun _ => Int32.ofInt 0))), (q4, .inl (c4, 4, .inl (fun _ => Int32.ofInt 0))), (q5, .inl (c5, 4, .inl (fun _ => Int32.ofInt 0))), (q6, .inl (c6, 4, .inl (fun _ => Int32.ofInt 0))), (q7, .inl (c7, 8, .inl (fun _ => Int32.ofInt 0))), (q8, .inl (c8, 8, .inl (fun _ => Int32.ofInt 0)))] := hD
  refine W.widen (k := 8) (n := 52) (Nat.le_refl _) (Nat.le_refl _) ?_
  refine va_putF (D := (dC, dI)) (ci := 0) (v := .ref q8) (ty := .array .byte) (C := R_P) (T := F_P) (N := 16) hx hb hts ig_P t_P t_P_ok n_P hown hK hP hD hS 0 rfl rfl 10 (by decide) (hts (.fieldLink R_P 32 "EqualJobPlanner" "askUntil" "[B") gf_P_32) (fun _ h9 => h9) rfl hin rfl (by decide +kernel) rfl rfl (Nat.le_of_ble_eq_true rfl) d_P_init_62 (fun H locs hP hD hS => ?_)
  have hP : va_P (dC, dI) classes [(h0, .inr (0, [vI 0, vI 0, .ref q1, .ref q2, .ref q3, .ref q4, .ref q5, .ref q6, vI 0, .ref q7, .ref q8, .null, .null, vI 0, vI 0, .null])), (q1, .inl (c1, 8, .inl (fun _ => Int32.ofInt 0))), (q2, .inl (c2, 8, .inl (fun _ => Int32.ofInt 0))), (q3, .inl (c3, 8, .inl (fun _ => Int32.ofInt 0))), (q4, .inl (c4, 4, .inl (fun _ => Int32.ofInt 0))), (q5, .inl (c5, 4, .inl (fun _ => Int32.ofInt 0))), (q6, .inl (c6, 4, .inl (fun _ => Int32.ofInt 0))), (q7, .inl (c7, 8, .inl (fun _ => Int32.ofInt 0))), (q8, .inl (c8, 8, .inl (fun _ => Int32.ofInt 0)))] H := hP
  have hD : va_D A [(h0, .inr (0, [vI 0, vI 0, .ref q1, .ref q2, .ref q3, .ref q4, .ref q5, .ref q6, vI 0, .ref q7, .ref q8, .null, .null, vI 0, vI 0, .null])), (q1, .inl (c1, 8, .inl (fun _ => Int32.ofInt 0))), (q2, .inl (c2, 8, .inl (fun _ => Int32.ofInt 0))), (q3, .inl (c3, 8, .inl (fun _ => Int32.ofInt 0))), (q4, .inl (c4, 4, .inl (fun _ => Int32.ofInt 0))), (q5, .inl (c5, 4, .inl (fun _ => Int32.ofInt 0))), (q6, .inl (c6, 4, .inl (fun _ => Int32.ofInt 0))), (q7, .inl (c7, 8, .inl (fun _ => Int32.ofInt 0))), (q8, .inl (c8, 8, .inl (fun _ => Int32.ofInt 0)))] := hD
  refine lv_aload_n hx hb d_P_init_65 rfl (lv_at hl 0 rfl) ?_
  refine lv_bipush (v := Int32.ofInt 8) hx hb d_P_init_66 (by decide) ?_
  refine va_newa (atype := .boolean) (ty := .boolean) (a0 := (8, .inl (fun _ => Int32.ofInt 0))) (N' := 8) hx hb (hts (.arrayClass .boolean) gw_arr_Z) rfl hK hP hD hS hA (fun cA => by rw [vp_cell_i]; rfl) (by decide) (by decide) (by decide) (Nat.le_of_ble_eq_true rfl) (Nat.le_of_ble_eq_true rfl) d_P_init_68 (fun q9 c9 H hK hP hD hS => ?_)
  have hK : va_K (dC, dI) classes [(c1, .boolean), (c2, .byte), (c3, .byte), (c4, .boolean), (c5, .byte), (c6, .byte), (c7, .byte), (c8, .byte), (c9, .boolean)] s := hK
  have hP : va_P (dC, dI) classes [(h0, .inr (0, [vI 0, vI 0, .ref q1, .ref q2, .ref q3, .ref q4, .ref q5, .ref q6, vI 0, .ref q7, .ref q8, .null, .null, vI 0, vI 0, .null])), (q1, .inl (c1, 8, .inl (fun _ => Int32.ofInt 0))), (q2, .inl (c2, 8, .inl (fun _ => Int32.ofInt 0))), (q3, .inl (c3, 8, .inl (fun _ => Int32.ofInt 0))), (q4, .inl (c4, 4, .inl (fun _ => Int32.ofInt 0))), (q5, .inl (c5, 4, .inl (fun _ => Int32.ofInt 0))), (q6, .inl (c6, 4, .inl (fun _ => Int32.ofInt 0))), (q7, .inl (c7, 8, .inl (fun _ => Int32.ofInt 0))), (q8, .inl (c8, 8, .inl (fun _ => Int32.ofInt 0))), (q9, .inl (c9, 8, .inl (fun _ => Int32.ofInt 0)))] H := hP
  have hD : va_D A [(h0, .inr (0, [vI 0, vI 0, .ref q1, .ref q2, .ref q3, .ref q4, .ref q5, .ref q6, vI 0, .ref q7, .ref q8, .null, .null, vI 0, vI 0, .null])), (q1, .inl (c1, 8, .inl (fun _ => Int32.ofInt 0))), (q2, .inl (c2, 8, .inl (fun _ => Int32.ofInt 0))), (q3, .inl (c3, 8, .inl (fun _ => Int32.ofInt 0))), (q4, .inl (c4, 4, .inl (fun _ => Int32.ofInt 0))), (q5, .inl (c5, 4, .inl (fun _ => Int32.ofInt 0))), (q6, .inl (c6, 4, .inl (fun _ => Int32.ofInt 0))), (q7, .inl (c7, 8, .inl (fun _ => Int32.ofInt 0))), (q8, .inl (c8, 8, .inl (fun _ => Int32.ofInt 0))), (q9, .inl (c9, 8, .inl (fun _ => Int32.ofInt 0)))] := hD
  refine W.widen (k := 9) (n := 60) (Nat.le_refl _) (Nat.le_refl _) ?_
  refine va_putF (D := (dC, dI)) (ci := 0) (v := .ref q9) (ty := .array .boolean) (C := R_P) (T := F_P) (N := 16) hx hb hts ig_P t_P t_P_ok n_P hown hK hP hD hS 0 rfl rfl 11 (by decide) (hts (.fieldLink R_P 35 "EqualJobPlanner" "placed" "[Z") gf_P_35) (fun _ h9 => h9) rfl hin rfl (by decide +kernel) rfl rfl (Nat.le_of_ble_eq_true rfl) d_P_init_70 (fun H locs hP hD hS => ?_)
  have hP : va_P (dC, dI) classes [(h0, .inr (0, [vI 0, vI 0, .ref q1, .ref q2, .ref q3, .ref q4, .ref q5, .ref q6, vI 0, .ref q7, .ref q8, .ref q9, .null, vI 0, vI 0, .null])), (q1, .inl (c1, 8, .inl (fun _ => Int32.ofInt 0))), (q2, .inl (c2, 8, .inl (fun _ => Int32.ofInt 0))), (q3, .inl (c3, 8, .inl (fun _ => Int32.ofInt 0))), (q4, .inl (c4, 4, .inl (fun _ => Int32.ofInt 0))), (q5, .inl (c5, 4, .inl (fun _ => Int32.ofInt 0))), (q6, .inl (c6, 4, .inl (fun _ => Int32.ofInt 0))), (q7, .inl (c7, 8, .inl (fun _ => Int32.ofInt 0))), (q8, .inl (c8, 8, .inl (fun _ => Int32.ofInt 0))), (q9, .inl (c9, 8, .inl (fun _ => Int32.ofInt 0)))] H := hP
  have hD : va_D A [(h0, .inr (0, [vI 0, vI 0, .ref q1, .ref q2, .ref q3, .ref q4, .ref q5, .ref q6, vI 0, .ref q7, .ref q8, .ref q9, .null, vI 0, vI 0, .null])), (q1, .inl (c1, 8, .inl (fun _ => Int32.ofInt 0))), (q2, .inl (c2, 8, .inl (fun _ => Int32.ofInt 0))), (q3, .inl (c3, 8, .inl (fun _ => Int32.ofInt 0))), (q4, .inl (c4, 4, .inl (fun _ => Int32.ofInt 0))), (q5, .inl (c5, 4, .inl (fun _ => Int32.ofInt 0))), (q6, .inl (c6, 4, .inl (fun _ => Int32.ofInt 0))), (q7, .inl (c7, 8, .inl (fun _ => Int32.ofInt 0))), (q8, .inl (c8, 8, .inl (fun _ => Int32.ofInt 0))), (q9, .inl (c9, 8, .inl (fun _ => Int32.ofInt 0)))] := hD
  refine lv_aload_n hx hb d_P_init_73 rfl (lv_at hl 0 rfl) ?_
  refine lv_bipush (v := Int32.ofInt 48) hx hb d_P_init_74 (by decide) ?_
  refine va_newa (atype := .boolean) (ty := .boolean) (a0 := (48, .inl (fun _ => Int32.ofInt 0))) (N' := 48) hx hb (hts (.arrayClass .boolean) gw_arr_Z) rfl hK hP hD hS hA (fun cA => by rw [vp_cell_i]; rfl) (by decide) (by decide) (by decide) (Nat.le_of_ble_eq_true rfl) (Nat.le_of_ble_eq_true rfl) d_P_init_76 (fun q10 c10 H hK hP hD hS => ?_)
  have hK : va_K (dC, dI) classes [(c1, .boolean), (c2, .byte), (c3, .byte), (c4, .boolean), (c5, .byte), (c6, .byte), (c7, .byte), (c8, .byte), (c9, .boolean), (c10, .boolean)] s := hK
  have hP : va_P (dC, dI) classes [(h0, .inr (0, [vI 0, vI 0, .ref q1, .ref q2, .ref q3, .ref q4, .ref q5, .ref q6, vI 0, .ref q7, .ref q8, .ref q9, .null, vI 0, vI 0, .null])), (q1, .inl (c1, 8, .inl (fun _ => Int32.ofInt 0))), (q2, .inl (c2, 8, .inl (fun _ => Int32.ofInt 0))), (q3, .inl (c3, 8, .inl (fun _ => Int32.ofInt 0))), (q4, .inl (c4, 4, .inl (fun _ => Int32.ofInt 0))), (q5, .inl (c5, 4, .inl (fun _ => Int32.ofInt 0))), (q6, .inl (c6, 4, .inl (fun _ => Int32.ofInt 0))), (q7, .inl (c7, 8, .inl (fun _ => Int32.ofInt 0))), (q8, .inl (c8, 8, .inl (fun _ => Int32.ofInt 0))), (q9, .inl (c9, 8, .inl (fun _ => Int32.ofInt 0))), (q10, .inl (c10, 48, .inl (fun _ => Int32.ofInt 0)))] H := hP
  have hD : va_D A [(h0, .inr (0, [vI 0, vI 0, .ref q1, .ref q2, .ref q3, .ref q4, .ref q5, .ref q6, vI 0, .ref q7, .ref q8, .ref q9, .null, vI 0, vI 0, .null])), (q1, .inl (c1, 8, .inl (fun _ => Int32.ofInt 0))), (q2, .inl (c2, 8, .inl (fun _ => Int32.ofInt 0))), (q3, .inl (c3, 8, .inl (fun _ => Int32.ofInt 0))), (q4, .inl (c4, 4, .inl (fun _ => Int32.ofInt 0))), (q5, .inl (c5, 4, .inl (fun _ => Int32.ofInt 0))), (q6, .inl (c6, 4, .inl (fun _ => Int32.ofInt 0))), (q7, .inl (c7, 8, .inl (fun _ => Int32.ofInt 0))), (q8, .inl (c8, 8, .inl (fun _ => Int32.ofInt 0))), (q9, .inl (c9, 8, .inl (fun _ => Int32.ofInt 0))), (q10, .inl (c10, 48, .inl (fun _ => Int32.ofInt 0)))] := hD
  refine W.widen (k := 10) (n := 108) (Nat.le_refl _) (Nat.le_refl _) ?_
  refine va_putF (D := (dC, dI)) (ci := 0) (v := .ref q10) (ty := .array .boolean) (C := R_P) (T := F_P) (N := 16) hx hb hts ig_P t_P t_P_ok n_P hown hK hP hD hS 0 rfl rfl 12 (by decide) (hts (.fieldLink R_P 38 "EqualJobPlanner" "shut" "[Z") gf_P_38) (fun _ h9 => h9) rfl hin rfl (by decide +kernel) rfl rfl (Nat.le_of_ble_eq_true rfl) d_P_init_78 (fun H locs hP hD hS => ?_)
  have hP : va_P (dC, dI) classes [(h0, .inr (0, [vI 0, vI 0, .ref q1, .ref q2, .ref q3, .ref q4, .ref q5, .ref q6, vI 0, .ref q7, .ref q8, .ref q9, .ref q10, vI 0, vI 0, .null])), (q1, .inl (c1, 8, .inl (fun _ => Int32.ofInt 0))), (q2, .inl (c2, 8, .inl (fun _ => Int32.ofInt 0))), (q3, .inl (c3, 8, .inl (fun _ => Int32.ofInt 0))), (q4, .inl (c4, 4, .inl (fun _ => Int32.ofInt 0))), (q5, .inl (c5, 4, .inl (fun _ => Int32.ofInt 0))), (q6, .inl (c6, 4, .inl (fun _ => Int32.ofInt 0))), (q7, .inl (c7, 8, .inl (fun _ => Int32.ofInt 0))), (q8, .inl (c8, 8, .inl (fun _ => Int32.ofInt 0))), (q9, .inl (c9, 8, .inl (fun _ => Int32.ofInt 0))), (q10, .inl (c10, 48, .inl (fun _ => Int32.ofInt 0)))] H := hP
  have hD : va_D A [(h0, .inr (0, [vI 0, vI 0, .ref q1, .ref q2, .ref q3, .ref q4, .ref q5, .ref q6, vI 0, .ref q7, .ref q8, .ref q9, .ref q10, vI 0, vI 0, .null])), (q1, .inl (c1, 8, .inl (fun _ => Int32.ofInt 0))), (q2, .inl (c2, 8, .inl (fun _ => Int32.ofInt 0))), (q3, .inl (c3, 8, .inl (fun _ => Int32.ofInt 0))), (q4, .inl (c4, 4, .inl (fun _ => Int32.ofInt 0))), (q5, .inl (c5, 4, .inl (fun _ => Int32.ofInt 0))), (q6, .inl (c6, 4, .inl (fun _ => Int32.ofInt 0))), (q7, .inl (c7, 8, .inl (fun _ => Int32.ofInt 0))), (q8, .inl (c8, 8, .inl (fun _ => Int32.ofInt 0))), (q9, .inl (c9, 8, .inl (fun _ => Int32.ofInt 0))), (q10, .inl (c10, 48, .inl (fun _ => Int32.ofInt 0)))] := hD
  refine lv_aload_n hx hb d_P_init_81 rfl (lv_at hl 0 rfl) ?_
  refine lv_bipush (v := Int32.ofInt 8) hx hb d_P_init_82 (by decide) ?_
  refine va_newa (atype := .byte) (ty := .byte) (a0 := (8, .inl (fun _ => Int32.ofInt 0))) (N' := 8) hx hb (hts (.arrayClass .byte) gw_arr_B) rfl hK hP hD hS hA (fun cA => by rw [vp_cell_i]; rfl) (by decide) (by decide) (by decide) (Nat.le_of_ble_eq_true rfl) (Nat.le_of_ble_eq_true rfl) d_P_init_84 (fun q11 c11 H hK hP hD hS => ?_)
  have hK : va_K (dC, dI) classes [(c1, .boolean), (c2, .byte), (c3, .byte), (c4, .boolean), (c5, .byte), (c6, .byte), (c7, .byte), (c8, .byte), (c9, .boolean), (c10, .boolean), (c11, .byte)] s := hK
  have hP : va_P (dC, dI) classes [(h0, .inr (0, [vI 0, vI 0, .ref q1, .ref q2, .ref q3, .ref q4, .ref q5, .ref q6, vI 0, .ref q7, .ref q8, .ref q9, .ref q10, vI 0, vI 0, .null])), (q1, .inl (c1, 8, .inl (fun _ => Int32.ofInt 0))), (q2, .inl (c2, 8, .inl (fun _ => Int32.ofInt 0))), (q3, .inl (c3, 8, .inl (fun _ => Int32.ofInt 0))), (q4, .inl (c4, 4, .inl (fun _ => Int32.ofInt 0))), (q5, .inl (c5, 4, .inl (fun _ => Int32.ofInt 0))), (q6, .inl (c6, 4, .inl (fun _ => Int32.ofInt 0))), (q7, .inl (c7, 8, .inl (fun _ => Int32.ofInt 0))), (q8, .inl (c8, 8, .inl (fun _ => Int32.ofInt 0))), (q9, .inl (c9, 8, .inl (fun _ => Int32.ofInt 0))), (q10, .inl (c10, 48, .inl (fun _ => Int32.ofInt 0))), (q11, .inl (c11, 8, .inl (fun _ => Int32.ofInt 0)))] H := hP
  have hD : va_D A [(h0, .inr (0, [vI 0, vI 0, .ref q1, .ref q2, .ref q3, .ref q4, .ref q5, .ref q6, vI 0, .ref q7, .ref q8, .ref q9, .ref q10, vI 0, vI 0, .null])), (q1, .inl (c1, 8, .inl (fun _ => Int32.ofInt 0))), (q2, .inl (c2, 8, .inl (fun _ => Int32.ofInt 0))), (q3, .inl (c3, 8, .inl (fun _ => Int32.ofInt 0))), (q4, .inl (c4, 4, .inl (fun _ => Int32.ofInt 0))), (q5, .inl (c5, 4, .inl (fun _ => Int32.ofInt 0))), (q6, .inl (c6, 4, .inl (fun _ => Int32.ofInt 0))), (q7, .inl (c7, 8, .inl (fun _ => Int32.ofInt 0))), (q8, .inl (c8, 8, .inl (fun _ => Int32.ofInt 0))), (q9, .inl (c9, 8, .inl (fun _ => Int32.ofInt 0))), (q10, .inl (c10, 48, .inl (fun _ => Int32.ofInt 0))), (q11, .inl (c11, 8, .inl (fun _ => Int32.ofInt 0)))] := hD
  refine W.widen (k := 11) (n := 116) (Nat.le_refl _) (Nat.le_refl _) ?_
  refine va_putF (D := (dC, dI)) (ci := 0) (v := .ref q11) (ty := .array .byte) (C := R_P) (T := F_P) (N := 16) hx hb hts ig_P t_P t_P_ok n_P hown hK hP hD hS 0 rfl rfl 15 (by decide) (hts (.fieldLink R_P 41 "EqualJobPlanner" "plan" "[B") gf_P_41) (fun _ h9 => h9) rfl hin rfl (by decide +kernel) rfl rfl (Nat.le_of_ble_eq_true rfl) d_P_init_86 (fun H locs hP hD hS => ?_)
  have hP : va_P (dC, dI) classes [(h0, .inr (0, [vI 0, vI 0, .ref q1, .ref q2, .ref q3, .ref q4, .ref q5, .ref q6, vI 0, .ref q7, .ref q8, .ref q9, .ref q10, vI 0, vI 0, .ref q11])), (q1, .inl (c1, 8, .inl (fun _ => Int32.ofInt 0))), (q2, .inl (c2, 8, .inl (fun _ => Int32.ofInt 0))), (q3, .inl (c3, 8, .inl (fun _ => Int32.ofInt 0))), (q4, .inl (c4, 4, .inl (fun _ => Int32.ofInt 0))), (q5, .inl (c5, 4, .inl (fun _ => Int32.ofInt 0))), (q6, .inl (c6, 4, .inl (fun _ => Int32.ofInt 0))), (q7, .inl (c7, 8, .inl (fun _ => Int32.ofInt 0))), (q8, .inl (c8, 8, .inl (fun _ => Int32.ofInt 0))), (q9, .inl (c9, 8, .inl (fun _ => Int32.ofInt 0))), (q10, .inl (c10, 48, .inl (fun _ => Int32.ofInt 0))), (q11, .inl (c11, 8, .inl (fun _ => Int32.ofInt 0)))] H := hP
  have hD : va_D A [(h0, .inr (0, [vI 0, vI 0, .ref q1, .ref q2, .ref q3, .ref q4, .ref q5, .ref q6, vI 0, .ref q7, .ref q8, .ref q9, .ref q10, vI 0, vI 0, .ref q11])), (q1, .inl (c1, 8, .inl (fun _ => Int32.ofInt 0))), (q2, .inl (c2, 8, .inl (fun _ => Int32.ofInt 0))), (q3, .inl (c3, 8, .inl (fun _ => Int32.ofInt 0))), (q4, .inl (c4, 4, .inl (fun _ => Int32.ofInt 0))), (q5, .inl (c5, 4, .inl (fun _ => Int32.ofInt 0))), (q6, .inl (c6, 4, .inl (fun _ => Int32.ofInt 0))), (q7, .inl (c7, 8, .inl (fun _ => Int32.ofInt 0))), (q8, .inl (c8, 8, .inl (fun _ => Int32.ofInt 0))), (q9, .inl (c9, 8, .inl (fun _ => Int32.ofInt 0))), (q10, .inl (c10, 48, .inl (fun _ => Int32.ofInt 0))), (q11, .inl (c11, 8, .inl (fun _ => Int32.ofInt 0)))] := hD
  refine lv_aload_n hx hb d_P_init_89 rfl (lv_at hl 0 rfl) ?_
  refine w_clamp (x := a) hx hb a1 a2 (lv_at hl 1 rfl) rfl d_P_init_90 d_P_init_91 d_P_init_92 d_P_init_95 d_P_init_96 d_P_init_99 d_P_init_100 d_P_init_102 d_P_init_105 d_P_init_107 d_P_init_110 ?_
  refine va_putF (D := (dC, dI)) (ci := 0) (v := vI (clamp6 a)) (ty := .int) (C := R_P) (T := F_P) (N := 16) hx hb hts ig_P t_P t_P_ok n_P hown hK hP hD hS 0 rfl rfl 0 (by decide) (hts (.fieldLink R_P 44 "EqualJobPlanner" "length" "I") gf_P_44) (fun _ h9 => h9) rfl hin rfl (by decide +kernel) rfl rfl (Nat.le_of_ble_eq_true rfl) d_P_init_111 (fun H locs hP hD hS => ?_)
  have hP : va_P (dC, dI) classes [(h0, .inr (0, [vI (clamp6 a), vI 0, .ref q1, .ref q2, .ref q3, .ref q4, .ref q5, .ref q6, vI 0, .ref q7, .ref q8, .ref q9, .ref q10, vI 0, vI 0, .ref q11])), (q1, .inl (c1, 8, .inl (fun _ => Int32.ofInt 0))), (q2, .inl (c2, 8, .inl (fun _ => Int32.ofInt 0))), (q3, .inl (c3, 8, .inl (fun _ => Int32.ofInt 0))), (q4, .inl (c4, 4, .inl (fun _ => Int32.ofInt 0))), (q5, .inl (c5, 4, .inl (fun _ => Int32.ofInt 0))), (q6, .inl (c6, 4, .inl (fun _ => Int32.ofInt 0))), (q7, .inl (c7, 8, .inl (fun _ => Int32.ofInt 0))), (q8, .inl (c8, 8, .inl (fun _ => Int32.ofInt 0))), (q9, .inl (c9, 8, .inl (fun _ => Int32.ofInt 0))), (q10, .inl (c10, 48, .inl (fun _ => Int32.ofInt 0))), (q11, .inl (c11, 8, .inl (fun _ => Int32.ofInt 0)))] H := hP
  have hD : va_D A [(h0, .inr (0, [vI (clamp6 a), vI 0, .ref q1, .ref q2, .ref q3, .ref q4, .ref q5, .ref q6, vI 0, .ref q7, .ref q8, .ref q9, .ref q10, vI 0, vI 0, .ref q11])), (q1, .inl (c1, 8, .inl (fun _ => Int32.ofInt 0))), (q2, .inl (c2, 8, .inl (fun _ => Int32.ofInt 0))), (q3, .inl (c3, 8, .inl (fun _ => Int32.ofInt 0))), (q4, .inl (c4, 4, .inl (fun _ => Int32.ofInt 0))), (q5, .inl (c5, 4, .inl (fun _ => Int32.ofInt 0))), (q6, .inl (c6, 4, .inl (fun _ => Int32.ofInt 0))), (q7, .inl (c7, 8, .inl (fun _ => Int32.ofInt 0))), (q8, .inl (c8, 8, .inl (fun _ => Int32.ofInt 0))), (q9, .inl (c9, 8, .inl (fun _ => Int32.ofInt 0))), (q10, .inl (c10, 48, .inl (fun _ => Int32.ofInt 0))), (q11, .inl (c11, 8, .inl (fun _ => Int32.ofInt 0)))] := hD
  refine lv_aload_n hx hb d_P_init_114 rfl (lv_at hl 0 rfl) ?_
  refine w_clamp (x := b) hx hb b1 b2 (lv_at hl 2 rfl) rfl d_P_init_115 d_P_init_116 d_P_init_117 d_P_init_120 d_P_init_121 d_P_init_124 d_P_init_125 d_P_init_127 d_P_init_130 d_P_init_132 d_P_init_135 ?_
  refine va_putF (D := (dC, dI)) (ci := 0) (v := vI (clamp6 b)) (ty := .int) (C := R_P) (T := F_P) (N := 16) hx hb hts ig_P t_P t_P_ok n_P hown hK hP hD hS 0 rfl rfl 1 (by decide) (hts (.fieldLink R_P 48 "EqualJobPlanner" "capacity" "I") gf_P_48) (fun _ h9 => h9) rfl hin rfl (by decide +kernel) rfl rfl (Nat.le_of_ble_eq_true rfl) d_P_init_136 (fun H locs hP hD hS => ?_)
  have hP : va_P (dC, dI) classes [(h0, .inr (0, [vI (clamp6 a), vI (clamp6 b), .ref q1, .ref q2, .ref q3, .ref q4, .ref q5, .ref q6, vI 0, .ref q7, .ref q8, .ref q9, .ref q10, vI 0, vI 0, .ref q11])), (q1, .inl (c1, 8, .inl (fun _ => Int32.ofInt 0))), (q2, .inl (c2, 8, .inl (fun _ => Int32.ofInt 0))), (q3, .inl (c3, 8, .inl (fun _ => Int32.ofInt 0))), (q4, .inl (c4, 4, .inl (fun _ => Int32.ofInt 0))), (q5, .inl (c5, 4, .inl (fun _ => Int32.ofInt 0))), (q6, .inl (c6, 4, .inl (fun _ => Int32.ofInt 0))), (q7, .inl (c7, 8, .inl (fun _ => Int32.ofInt 0))), (q8, .inl (c8, 8, .inl (fun _ => Int32.ofInt 0))), (q9, .inl (c9, 8, .inl (fun _ => Int32.ofInt 0))), (q10, .inl (c10, 48, .inl (fun _ => Int32.ofInt 0))), (q11, .inl (c11, 8, .inl (fun _ => Int32.ofInt 0)))] H := hP
  have hD : va_D A [(h0, .inr (0, [vI (clamp6 a), vI (clamp6 b), .ref q1, .ref q2, .ref q3, .ref q4, .ref q5, .ref q6, vI 0, .ref q7, .ref q8, .ref q9, .ref q10, vI 0, vI 0, .ref q11])), (q1, .inl (c1, 8, .inl (fun _ => Int32.ofInt 0))), (q2, .inl (c2, 8, .inl (fun _ => Int32.ofInt 0))), (q3, .inl (c3, 8, .inl (fun _ => Int32.ofInt 0))), (q4, .inl (c4, 4, .inl (fun _ => Int32.ofInt 0))), (q5, .inl (c5, 4, .inl (fun _ => Int32.ofInt 0))), (q6, .inl (c6, 4, .inl (fun _ => Int32.ofInt 0))), (q7, .inl (c7, 8, .inl (fun _ => Int32.ofInt 0))), (q8, .inl (c8, 8, .inl (fun _ => Int32.ofInt 0))), (q9, .inl (c9, 8, .inl (fun _ => Int32.ofInt 0))), (q10, .inl (c10, 48, .inl (fun _ => Int32.ofInt 0))), (q11, .inl (c11, 8, .inl (fun _ => Int32.ofInt 0)))] := hD
  have e3 : c2 = c3 := Option.some.inj ((hK.2 1 _ rfl).2.symm.trans (hK.2 2 _ rfl).2)
  have e4 : c1 = c4 := Option.some.inj ((hK.2 0 _ rfl).2.symm.trans (hK.2 3 _ rfl).2)
  have e5 : c2 = c5 := Option.some.inj ((hK.2 1 _ rfl).2.symm.trans (hK.2 4 _ rfl).2)
  have e6 : c2 = c6 := Option.some.inj ((hK.2 1 _ rfl).2.symm.trans (hK.2 5 _ rfl).2)
  have e7 : c2 = c7 := Option.some.inj ((hK.2 1 _ rfl).2.symm.trans (hK.2 6 _ rfl).2)
  have e8 : c2 = c8 := Option.some.inj ((hK.2 1 _ rfl).2.symm.trans (hK.2 7 _ rfl).2)
  have e9 : c1 = c9 := Option.some.inj ((hK.2 0 _ rfl).2.symm.trans (hK.2 8 _ rfl).2)
  have e10 : c1 = c10 := Option.some.inj ((hK.2 0 _ rfl).2.symm.trans (hK.2 9 _ rfl).2)
  have e11 : c2 = c11 := Option.some.inj ((hK.2 1 _ rfl).2.symm.trans (hK.2 10 _ rfl).2)
  subst e3
  subst e4
  subst e5
  subst e6
  subst e7
  subst e8
  subst e9
  subst e10
  subst e11
  have hP9 : va_P (dC, dI) classes (PW ((dC, dI), (fun k => [h0, q1, q2, q3, q4, q5, q6, q7, q8, q9, q10, q11].getD k 0), c1, c2, 0) (S0 a b)) H := hP
  have hD9 : va_D A (PW ((dC, dI), (fun k => [h0, q1, q2, q3, q4, q5, q6, q7, q8, q9, q10, q11].getD k 0), c1, c2, 0) (S0 a b)) := hD
  have hK9 := hK.sub (tys' := [(c1, .boolean), (c2, .byte)]) [0, 1] rfl
  exact W.vret hx hb hr (fun t ht hW => ⟨⟨((fun k => [h0, q1, q2, q3, q4, q5, q6, q7, q8, q9, q10, q11].getD k 0), c1, c2), rfl, rfl, by rw [ht]; exact hP9, va_K.moved hW.alike hK9, hD9⟩, hS.F ht⟩) hS.2.2 d_P_init_139
/-- the fields of a new object -/
abbrev fsM0 : List Value := [vI 0, vI 0, .null, .null, .null, .null, .null, .null, vI 0, .null, .null, .null]
set_option maxHeartbeats 4000000 in
set_option maxRecDepth 100000 in
theorem c_M_init (l : Launch) (dC : Nat → ClassId) (dI : Nat → Nat → Nat) (h0 sz : Nat) (a b : Int) (a1 : -2147483648 ≤ a) (a2 : a ≤ 2147483647) (b1 : -2147483648 ≤ b) (b2 : b ≤ 2147483647) : Met l y_M_init (.code y_M_init b_M_init 3 none :: gw_tbl) { frames := 1, cells := 9, slots := 5292, locals := 20 } (va_Pc [.ref h0, vI a, vI b] (fun U => U.heap.size = sz ∧ va_P (dC, dI) classes [(h0, .inr (1, fsM0))] U.heap ∧ va_K (dC, dI) classes [] U ∧ va_D (fun _ => True) [(h0, .inr (1, fsM0))])) (va_Qv (fun w : (Nat → Nat) × ClassId × ClassId => w.1 0 = h0) (fun w t => va_P (dC, dI) classes (MW ((dC, dI), w.1, w.2.1, 0, w.2.2) (S0 a b)) t.heap ∧ va_K (dC, dI) classes [(w.2.1, .boolean), (w.2.2, .int)] t ∧ va_D (va_A [(h0, .inr (1, fsM0))] sz) (MW ((dC, dI), w.1, w.2.1, 0, w.2.2) (S0 a b))) (va_A [(h0, .inr (1, fsM0))] sz)) 9 5292 (va_A [(h0, .inr (1, fsM0))] sz) := by
  refine Met.ofW (cc := b_M_init) (maxL := 3) (ret := none) (by decide) rfl ?_
  intro p e s m args below meth c s₁ B hml hv
  obtain ⟨rfl, hsz, hP, hK, hD0⟩ := hv
  have hx := B.exec
  have hb := B.bytes
  have hr := B.returns
  have hts0 := atoms_spec (ws := (Cond.code y_M_init b_M_init 3 none :: gw_tbl)) B.pre
  have hts : ∀ w ∈ gw_tbl, w.before [Value.ref h0, vI a, vI b].toArray s = true := fun w hw => hts0 w (List.mem_cons_of_mem _ hw)
  have hown : s.vm.findClass R_M = some m.cls := findClass_of_methodNamed B.named
  have hlocks := B.notSynchronized
  have hin : meth.name = "<init>" := (name_of_methodNamed B.named B.method).1
  subst hsz
  have hD := hD0.self (sz := s.heap.size)
  generalize hAe : va_A [(h0, .inr (1, fsM0))] s.heap.size = A at hD ⊢
  have hA : ∀ q : Nat, s.heap.size ≤ q → A q := fun q h => by rw [← hAe]; exact Or.inr h
  have hS : va_S A s.heap s.heap [] := va_S.rf
  have hl := lv_entry ([.ref h0, vI a, vI b]) (n := 3) (Nat.le_of_ble_eq_true rfl)
  rw [lg_entry_eq]
  generalize (lg_sl ([.ref h0, vI a, vI b]) ++ List.replicate (3 - (lg_sl ([.ref h0, vI a, vI b])).length) Slot.unset).toArray = ls at hl ⊢
  have hl : lv_has ls 3 [(0, .ref h0), (1, vI a), (2, vI b)] := hl
  refine lv_aload_n hx hb d_M_init_0 rfl (lv_at hl 0 rfl) ?_
  refine W.objInit hx hb hown (hts (.methodLink R_M 1 objectInit) gw_oi_M) (hts (.instanceMethod objectInit) gw_oinst) (hts _ gw_ocode) rfl (by rw [hml]; exact hl.1) rfl d_M_init_1 (Nat.le_of_ble_eq_true rfl) (Nat.le_of_ble_eq_true rfl) ?_
  refine W.eq (g2 := F0 m 4 ls []) rfl ?_
  refine lv_aload_n hx hb d_M_init_4 rfl (lv_at hl 0 rfl) ?_
  refine lv_bipush (v := Int32.ofInt 6) hx hb d_M_init_5 (by decide) ?_
  refine va_newa (atype := .boolean) (ty := .boolean) (a0 := (6, .inl (fun _ => Int32.ofInt 0))) (N' := 6) hx hb (hts (.arrayClass .boolean) gw_arr_Z) rfl hK hP hD hS hA (fun cA => by rw [vp_cell_i]; rfl) (by decide) (by decide) (by decide) (Nat.le_of_ble_eq_true rfl) (Nat.le_of_ble_eq_true rfl) d_M_init_7 (fun q1 c1 H hK hP hD hS => ?_)
  have hK : va_K (dC, dI) classes [(c1, .boolean)] s := hK
  have hP : va_P (dC, dI) classes [(h0, .inr (1, [vI 0, vI 0, .null, .null, .null, .null, .null, .null, vI 0, .null, .null, .null])), (q1, .inl (c1, 6, .inl (fun _ => Int32.ofInt 0)))] H := hP
  have hD : va_D A [(h0, .inr (1, [vI 0, vI 0, .null, .null, .null, .null, .null, .null, vI 0, .null, .null, .null])), (q1, .inl (c1, 6, .inl (fun _ => Int32.ofInt 0)))] := hD
  refine W.widen (k := 1) (n := 6) (Nat.le_refl _) (Nat.le_refl _) ?_
  refine va_put (D := (dC, dI)) (ci := 1) (v := .ref q1) (ty := .array .boolean) (C := R_M) (T := F_M) (N := 12) hx hb hts ig_M t_M t_M_ok n_M hown hK hP hD hS 0 rfl rfl 2 (by decide) (hts (.fieldLink R_M 7 "EqualJobPlannerModel" "held" "[Z") gf_M_7) (fun _ h9 => h9) rfl (by decide +kernel) rfl rfl (Nat.le_of_ble_eq_true rfl) d_M_init_9 (fun H locs hP hD hS => ?_)
  have hP : va_P (dC, dI) classes [(h0, .inr (1, [vI 0, vI 0, .ref q1, .null, .null, .null, .null, .null, vI 0, .null, .null, .null])), (q1, .inl (c1, 6, .inl (fun _ => Int32.ofInt 0)))] H := hP
  have hD : va_D A [(h0, .inr (1, [vI 0, vI 0, .ref q1, .null, .null, .null, .null, .null, vI 0, .null, .null, .null])), (q1, .inl (c1, 6, .inl (fun _ => Int32.ofInt 0)))] := hD
  refine lv_aload_n hx hb d_M_init_12 rfl (lv_at hl 0 rfl) ?_
  refine lv_bipush (v := Int32.ofInt 6) hx hb d_M_init_13 (by decide) ?_
  refine va_newa (atype := .int) (ty := .int) (a0 := (6, .inl (fun _ => Int32.ofInt 0))) (N' := 6) hx hb (hts (.arrayClass .int) gw_arr_I) rfl hK hP hD hS hA (fun cA => by rw [vp_cell_i]; rfl) (by decide) (by decide) (by decide) (Nat.le_of_ble_eq_true rfl) (Nat.le_of_ble_eq_true rfl) d_M_init_15 (fun q2 c2 H hK hP hD hS => ?_)
  have hK : va_K (dC, dI) classes [(c1, .boolean), (c2, .int)] s := hK
  have hP : va_P (dC, dI) classes [(h0, .inr (1, [vI 0, vI 0, .ref q1, .null, .null, .null, .null, .null, vI 0, .null, .null, .null])), (q1, .inl (c1, 6, .inl (fun _ => Int32.ofInt 0))), (q2, .inl (c2, 6, .inl (fun _ => Int32.ofInt 0)))] H := hP
  have hD : va_D A [(h0, .inr (1, [vI 0, vI 0, .ref q1, .null, .null, .null, .null, .null, vI 0, .null, .null, .null])), (q1, .inl (c1, 6, .inl (fun _ => Int32.ofInt 0))), (q2, .inl (c2, 6, .inl (fun _ => Int32.ofInt 0)))] := hD
  refine W.widen (k := 2) (n := 12) (Nat.le_refl _) (Nat.le_refl _) ?_
  refine va_put (D := (dC, dI)) (ci := 1) (v := .ref q2) (ty := .array .int) (C := R_M) (T := F_M) (N := 12) hx hb hts ig_M t_M t_M_ok n_M hown hK hP hD hS 0 rfl rfl 3 (by decide) (hts (.fieldLink R_M 13 "EqualJobPlannerModel" "rel" "[I") gf_M_13) (fun _ h9 => h9) rfl (by decide +kernel) rfl rfl (Nat.le_of_ble_eq_true rfl) d_M_init_17 (fun H locs hP hD hS => ?_)
  have hP : va_P (dC, dI) classes [(h0, .inr (1, [vI 0, vI 0, .ref q1, .ref q2, .null, .null, .null, .null, vI 0, .null, .null, .null])), (q1, .inl (c1, 6, .inl (fun _ => Int32.ofInt 0))), (q2, .inl (c2, 6, .inl (fun _ => Int32.ofInt 0)))] H := hP
  have hD : va_D A [(h0, .inr (1, [vI 0, vI 0, .ref q1, .ref q2, .null, .null, .null, .null, vI 0, .null, .null, .null])), (q1, .inl (c1, 6, .inl (fun _ => Int32.ofInt 0))), (q2, .inl (c2, 6, .inl (fun _ => Int32.ofInt 0)))] := hD
  refine lv_aload_n hx hb d_M_init_20 rfl (lv_at hl 0 rfl) ?_
  refine lv_bipush (v := Int32.ofInt 6) hx hb d_M_init_21 (by decide) ?_
  refine va_newa (atype := .int) (ty := .int) (a0 := (6, .inl (fun _ => Int32.ofInt 0))) (N' := 6) hx hb (hts (.arrayClass .int) gw_arr_I) rfl hK hP hD hS hA (fun cA => by rw [vp_cell_i]; rfl) (by decide) (by decide) (by decide) (Nat.le_of_ble_eq_true rfl) (Nat.le_of_ble_eq_true rfl) d_M_init_23 (fun q3 c3 H hK hP hD hS => ?_)
  have hK : va_K (dC, dI) classes [(c1, .boolean), (c2, .int), (c3, .int)] s := hK
  have hP : va_P (dC, dI) classes [(h0, .inr (1, [vI 0, vI 0, .ref q1, .ref q2, .null, .null, .null, .null, vI 0, .null, .null, .null])), (q1, .inl (c1, 6, .inl (fun _ => Int32.ofInt 0))), (q2, .inl (c2, 6, .inl (fun _ => Int32.ofInt 0))), (q3, .inl (c3, 6, .inl (fun _ => Int32.ofInt 0)))] H := hP
  have hD : va_D A [(h0, .inr (1, [vI 0, vI 0, .ref q1, .ref q2, .null, .null, .null, .null, vI 0, .null, .null, .null])), (q1, .inl (c1, 6, .inl (fun _ => Int32.ofInt 0))), (q2, .inl (c2, 6, .inl (fun _ => Int32.ofInt 0))), (q3, .inl (c3, 6, .inl (fun _ => Int32.ofInt 0)))] := hD
  refine W.widen (k := 3) (n := 18) (Nat.le_refl _) (Nat.le_refl _) ?_
  refine va_put (D := (dC, dI)) (ci := 1) (v := .ref q3) (ty := .array .int) (C := R_M) (T := F_M) (N := 12) hx hb hts ig_M t_M t_M_ok n_M hown hK hP hD hS 0 rfl rfl 4 (by decide) (hts (.fieldLink R_M 17 "EqualJobPlannerModel" "dead" "[I") gf_M_17) (fun _ h9 => h9) rfl (by decide +kernel) rfl rfl (Nat.le_of_ble_eq_true rfl) d_M_init_25 (fun H locs hP hD hS => ?_)
  have hP : va_P (dC, dI) classes [(h0, .inr (1, [vI 0, vI 0, .ref q1, .ref q2, .ref q3, .null, .null, .null, vI 0, .null, .null, .null])), (q1, .inl (c1, 6, .inl (fun _ => Int32.ofInt 0))), (q2, .inl (c2, 6, .inl (fun _ => Int32.ofInt 0))), (q3, .inl (c3, 6, .inl (fun _ => Int32.ofInt 0)))] H := hP
  have hD : va_D A [(h0, .inr (1, [vI 0, vI 0, .ref q1, .ref q2, .ref q3, .null, .null, .null, vI 0, .null, .null, .null])), (q1, .inl (c1, 6, .inl (fun _ => Int32.ofInt 0))), (q2, .inl (c2, 6, .inl (fun _ => Int32.ofInt 0))), (q3, .inl (c3, 6, .inl (fun _ => Int32.ofInt 0)))] := hD
  refine lv_aload_n hx hb d_M_init_28 rfl (lv_at hl 0 rfl) ?_
  refine lv_iconst (v := Int32.ofInt 4) hx hb d_M_init_29 (by decide) ?_
  refine va_newa (atype := .boolean) (ty := .boolean) (a0 := (4, .inl (fun _ => Int32.ofInt 0))) (N' := 4) hx hb (hts (.arrayClass .boolean) gw_arr_Z) rfl hK hP hD hS hA (fun cA => by rw [vp_cell_i]; rfl) (by decide) (by decide) (by decide) (Nat.le_of_ble_eq_true rfl) (Nat.le_of_ble_eq_true rfl) d_M_init_30 (fun q4 c4 H hK hP hD hS => ?_)
  have hK : va_K (dC, dI) classes [(c1, .boolean), (c2, .int), (c3, .int), (c4, .boolean)] s := hK
  have hP : va_P (dC, dI) classes [(h0, .inr (1, [vI 0, vI 0, .ref q1, .ref q2, .ref q3, .null, .null, .null, vI 0, .null, .null, .null])), (q1, .inl (c1, 6, .inl (fun _ => Int32.ofInt 0))), (q2, .inl (c2, 6, .inl (fun _ => Int32.ofInt 0))), (q3, .inl (c3, 6, .inl (fun _ => Int32.ofInt 0))), (q4, .inl (c4, 4, .inl (fun _ => Int32.ofInt 0)))] H := hP
  have hD : va_D A [(h0, .inr (1, [vI 0, vI 0, .ref q1, .ref q2, .ref q3, .null, .null, .null, vI 0, .null, .null, .null])), (q1, .inl (c1, 6, .inl (fun _ => Int32.ofInt 0))), (q2, .inl (c2, 6, .inl (fun _ => Int32.ofInt 0))), (q3, .inl (c3, 6, .inl (fun _ => Int32.ofInt 0))), (q4, .inl (c4, 4, .inl (fun _ => Int32.ofInt 0)))] := hD
  refine W.widen (k := 4) (n := 22) (Nat.le_refl _) (Nat.le_refl _) ?_
  refine va_put (D := (dC, dI)) (ci := 1) (v := .ref q4) (ty := .array .boolean) (C := R_M) (T := F_M) (N := 12) hx hb hts ig_M t_M t_M_ok n_M hown hK hP hD hS 0 rfl rfl 5 (by decide) (hts (.fieldLink R_M 20 "EqualJobPlannerModel" "shut" "[Z") gf_M_20) (fun _ h9 => h9) rfl (by decide +kernel) rfl rfl (Nat.le_of_ble_eq_true rfl) d_M_init_32 (fun H locs hP hD hS => ?_)
  have hP : va_P (dC, dI) classes [(h0, .inr (1, [vI 0, vI 0, .ref q1, .ref q2, .ref q3, .ref q4, .null, .null, vI 0, .null, .null, .null])), (q1, .inl (c1, 6, .inl (fun _ => Int32.ofInt 0))), (q2, .inl (c2, 6, .inl (fun _ => Int32.ofInt 0))), (q3, .inl (c3, 6, .inl (fun _ => Int32.ofInt 0))), (q4, .inl (c4, 4, .inl (fun _ => Int32.ofInt 0)))] H := hP
  have hD : va_D A [(h0, .inr (1, [vI 0, vI 0, .ref q1, .ref q2, .ref q3, .ref q4, .null, .null, vI 0, .null, .null, .null])), (q1, .inl (c1, 6, .inl (fun _ => Int32.ofInt 0))), (q2, .inl (c2, 6, .inl (fun _ => Int32.ofInt 0))), (q3, .inl (c3, 6, .inl (fun _ => Int32.ofInt 0))), (q4, .inl (c4, 4, .inl (fun _ => Int32.ofInt 0)))] := hD
  refine lv_aload_n hx hb d_M_init_35 rfl (lv_at hl 0 rfl) ?_
  refine lv_iconst (v := Int32.ofInt 4) hx hb d_M_init_36 (by decide) ?_
  refine va_newa (atype := .int) (ty := .int) (a0 := (4, .inl (fun _ => Int32.ofInt 0))) (N' := 4) hx hb (hts (.arrayClass .int) gw_arr_I) rfl hK hP hD hS hA (fun cA => by rw [vp_cell_i]; rfl) (by decide) (by decide) (by decide) (Nat.le_of_ble_eq_true rfl) (Nat.le_of_ble_eq_true rfl) d_M_init_37 (fun q5 c5 H hK hP hD hS => ?_)
  have hK : va_K (dC, dI) classes [(c1, .boolean), (c2, .int), (c3, .int), (c4, .boolean), (c5, .int)] s := hK
  have hP : va_P (dC, dI) classes [(h0, .inr (1, [vI 0, vI 0, .ref q1, .ref q2, .ref q3, .ref q4, .null, .null, vI 0, .null, .null, .null])), (q1, .inl (c1, 6, .inl (fun _ => Int32.ofInt 0))), (q2, .inl (c2, 6, .inl (fun _ => Int32.ofInt 0))), (q3, .inl (c3, 6, .inl (fun _ => Int32.ofInt 0))), (q4, .inl (c4, 4, .inl (fun _ => Int32.ofInt 0))), (q5, .inl (c5, 4, .inl (fun _ => Int32.ofInt 0)))] H := hP
  have hD : va_D A [(h0, .inr (1, [vI 0, vI 0, .ref q1, .ref q2, .ref q3, .ref q4, .null, .null, vI 0, .null, .null, .null])), (q1, .inl (c1, 6, .inl (fun _ => Int32.ofInt 0))), (q2, .inl (c2, 6, .inl (fun _ => Int32.ofInt 0))), (q3, .inl (c3, 6, .inl (fun _ => Int32.ofInt 0))), (q4, .inl (c4, 4, .inl (fun _ => Int32.ofInt 0))), (q5, .inl (c5, 4, .inl (fun _ => Int32.ofInt 0)))] := hD
  refine W.widen (k := 5) (n := 26) (Nat.le_refl _) (Nat.le_refl _) ?_
  refine va_put (D := (dC, dI)) (ci := 1) (v := .ref q5) (ty := .array .int) (C := R_M) (T := F_M) (N := 12) hx hb hts ig_M t_M t_M_ok n_M hown hK hP hD hS 0 rfl rfl 6 (by decide) (hts (.fieldLink R_M 23 "EqualJobPlannerModel" "from" "[I") gf_M_23) (fun _ h9 => h9) rfl (by decide +kernel) rfl rfl (Nat.le_of_ble_eq_true rfl) d_M_init_39 (fun H locs hP hD hS => ?_)
  have hP : va_P (dC, dI) classes [(h0, .inr (1, [vI 0, vI 0, .ref q1, .ref q2, .ref q3, .ref q4, .ref q5, .null, vI 0, .null, .null, .null])), (q1, .inl (c1, 6, .inl (fun _ => Int32.ofInt 0))), (q2, .inl (c2, 6, .inl (fun _ => Int32.ofInt 0))), (q3, .inl (c3, 6, .inl (fun _ => Int32.ofInt 0))), (q4, .inl (c4, 4, .inl (fun _ => Int32.ofInt 0))), (q5, .inl (c5, 4, .inl (fun _ => Int32.ofInt 0)))] H := hP
  have hD : va_D A [(h0, .inr (1, [vI 0, vI 0, .ref q1, .ref q2, .ref q3, .ref q4, .ref q5, .null, vI 0, .null, .null, .null])), (q1, .inl (c1, 6, .inl (fun _ => Int32.ofInt 0))), (q2, .inl (c2, 6, .inl (fun _ => Int32.ofInt 0))), (q3, .inl (c3, 6, .inl (fun _ => Int32.ofInt 0))), (q4, .inl (c4, 4, .inl (fun _ => Int32.ofInt 0))), (q5, .inl (c5, 4, .inl (fun _ => Int32.ofInt 0)))] := hD
  refine lv_aload_n hx hb d_M_init_42 rfl (lv_at hl 0 rfl) ?_
  refine lv_iconst (v := Int32.ofInt 4) hx hb d_M_init_43 (by decide) ?_
  refine va_newa (atype := .int) (ty := .int) (a0 := (4, .inl (fun _ => Int32.ofInt 0))) (N' := 4) hx hb (hts (.arrayClass .int) gw_arr_I) rfl hK hP hD hS hA (fun cA => by rw [vp_cell_i]; rfl) (by decide) (by decide) (by decide) (Nat.le_of_ble_eq_true rfl) (Nat.le_of_ble_eq_true rfl) d_M_init_44 (fun q6 c6 H hK hP hD hS => ?_)
  have hK : va_K (dC, dI) classes [(c1, .boolean), (c2, .int), (c3, .int), (c4, .boolean), (c5, .int), (c6, .int)] s := hK
  have hP : va_P (dC, dI) classes [(h0, .inr (1, [vI 0, vI 0, .ref q1, .ref q2, .ref q3, .ref q4, .ref q5, .null, vI 0, .null, .null, .null])), (q1, .inl (c1, 6, .inl (fun _ => Int32.ofInt 0))), (q2, .inl (c2, 6, .inl (fun _ => Int32.ofInt 0))), (q3, .inl (c3, 6, .inl (fun _ => Int32.ofInt 0))), (q4, .inl (c4, 4, .inl (fun _ => Int32.ofInt 0))), (q5, .inl (c5, 4, .inl (fun _ => Int32.ofInt 0))), (q6, .inl (c6, 4, .inl (fun _ => Int32.ofInt 0)))] H := hP
  have hD : va_D A [(h0, .inr (1, [vI 0, vI 0, .ref q1, .ref q2, .ref q3, .ref q4, .ref q5, .null, vI 0, .null, .null, .null])), (q1, .inl (c1, 6, .inl (fun _ => Int32.ofInt 0))), (q2, .inl (c2, 6, .inl (fun _ => Int32.ofInt 0))), (q3, .inl (c3, 6, .inl (fun _ => Int32.ofInt 0))), (q4, .inl (c4, 4, .inl (fun _ => Int32.ofInt 0))), (q5, .inl (c5, 4, .inl (fun _ => Int32.ofInt 0))), (q6, .inl (c6, 4, .inl (fun _ => Int32.ofInt 0)))] := hD
  refine W.widen (k := 6) (n := 30) (Nat.le_refl _) (Nat.le_refl _) ?_
  refine va_put (D := (dC, dI)) (ci := 1) (v := .ref q6) (ty := .array .int) (C := R_M) (T := F_M) (N := 12) hx hb hts ig_M t_M t_M_ok n_M hown hK hP hD hS 0 rfl rfl 7 (by decide) (hts (.fieldLink R_M 26 "EqualJobPlannerModel" "to" "[I") gf_M_26) (fun _ h9 => h9) rfl (by decide +kernel) rfl rfl (Nat.le_of_ble_eq_true rfl) d_M_init_46 (fun H locs hP hD hS => ?_)
  have hP : va_P (dC, dI) classes [(h0, .inr (1, [vI 0, vI 0, .ref q1, .ref q2, .ref q3, .ref q4, .ref q5, .ref q6, vI 0, .null, .null, .null])), (q1, .inl (c1, 6, .inl (fun _ => Int32.ofInt 0))), (q2, .inl (c2, 6, .inl (fun _ => Int32.ofInt 0))), (q3, .inl (c3, 6, .inl (fun _ => Int32.ofInt 0))), (q4, .inl (c4, 4, .inl (fun _ => Int32.ofInt 0))), (q5, .inl (c5, 4, .inl (fun _ => Int32.ofInt 0))), (q6, .inl (c6, 4, .inl (fun _ => Int32.ofInt 0)))] H := hP
  have hD : va_D A [(h0, .inr (1, [vI 0, vI 0, .ref q1, .ref q2, .ref q3, .ref q4, .ref q5, .ref q6, vI 0, .null, .null, .null])), (q1, .inl (c1, 6, .inl (fun _ => Int32.ofInt 0))), (q2, .inl (c2, 6, .inl (fun _ => Int32.ofInt 0))), (q3, .inl (c3, 6, .inl (fun _ => Int32.ofInt 0))), (q4, .inl (c4, 4, .inl (fun _ => Int32.ofInt 0))), (q5, .inl (c5, 4, .inl (fun _ => Int32.ofInt 0))), (q6, .inl (c6, 4, .inl (fun _ => Int32.ofInt 0)))] := hD
  refine lv_aload_n hx hb d_M_init_49 rfl (lv_at hl 0 rfl) ?_
  refine lv_bipush (v := Int32.ofInt 7) hx hb d_M_init_50 (by decide) ?_
  refine va_newa (atype := .int) (ty := .int) (a0 := (7, .inl (fun _ => Int32.ofInt 0))) (N' := 7) hx hb (hts (.arrayClass .int) gw_arr_I) rfl hK hP hD hS hA (fun cA => by rw [vp_cell_i]; rfl) (by decide) (by decide) (by decide) (Nat.le_of_ble_eq_true rfl) (Nat.le_of_ble_eq_true rfl) d_M_init_52 (fun q7 c7 H hK hP hD hS => ?_)
  have hK : va_K (dC, dI) classes [(c1, .boolean), (c2, .int), (c3, .int), (c4, .boolean), (c5, .int), (c6, .int), (c7, .int)] s := hK
  have hP : va_P (dC, dI) classes [(h0, .inr (1, [vI 0, vI 0, .ref q1, .ref q2, .ref q3, .ref q4, .ref q5, .ref q6, vI 0, .null, .null, .null])), (q1, .inl (c1, 6, .inl (fun _ => Int32.ofInt 0))), (q2, .inl (c2, 6, .inl (fun _ => Int32.ofInt 0))), (q3, .inl (c3, 6, .inl (fun _ => Int32.ofInt 0))), (q4, .inl (c4, 4, .inl (fun _ => Int32.ofInt 0))), (q5, .inl (c5, 4, .inl (fun _ => Int32.ofInt 0))), (q6, .inl (c6, 4, .inl (fun _ => Int32.ofInt 0))), (q7, .inl (c7, 7, .inl (fun _ => Int32.ofInt 0)))] H := hP
  have hD : va_D A [(h0, .inr (1, [vI 0, vI 0, .ref q1, .ref q2, .ref q3, .ref q4, .ref q5, .ref q6, vI 0, .null, .null, .null])), (q1, .inl (c1, 6, .inl (fun _ => Int32.ofInt 0))), (q2, .inl (c2, 6, .inl (fun _ => Int32.ofInt 0))), (q3, .inl (c3, 6, .inl (fun _ => Int32.ofInt 0))), (q4, .inl (c4, 4, .inl (fun _ => Int32.ofInt 0))), (q5, .inl (c5, 4, .inl (fun _ => Int32.ofInt 0))), (q6, .inl (c6, 4, .inl (fun _ => Int32.ofInt 0))), (q7, .inl (c7, 7, .inl (fun _ => Int32.ofInt 0)))] := hD
  refine W.widen (k := 7) (n := 37) (Nat.le_refl _) (Nat.le_refl _) ?_
  refine va_put (D := (dC, dI)) (ci := 1) (v := .ref q7) (ty := .array .int) (C := R_M) (T := F_M) (N := 12) hx hb hts ig_M t_M t_M_ok n_M hown hK hP hD hS 0 rfl rfl 9 (by decide) (hts (.fieldLink R_M 29 "EqualJobPlannerModel" "lo" "[I") gf_M_29) (fun _ h9 => h9) rfl (by decide +kernel) rfl rfl (Nat.le_of_ble_eq_true rfl) d_M_init_54 (fun H locs hP hD hS => ?_)
  have hP : va_P (dC, dI) classes [(h0, .inr (1, [vI 0, vI 0, .ref q1, .ref q2, .ref q3, .ref q4, .ref q5, .ref q6, vI 0, .ref q7, .null, .null])), (q1, .inl (c1, 6, .inl (fun _ => Int32.ofInt 0))), (q2, .inl (c2, 6, .inl (fun _ => Int32.ofInt 0))), (q3, .inl (c3, 6, .inl (fun _ => Int32.ofInt 0))), (q4, .inl (c4, 4, .inl (fun _ => Int32.ofInt 0))), (q5, .inl (c5, 4, .inl (fun _ => Int32.ofInt 0))), (q6, .inl (c6, 4, .inl (fun _ => Int32.ofInt 0))), (q7, .inl (c7, 7, .inl (fun _ => Int32.ofInt 0)))] H := hP
  have hD : va_D A [(h0, .inr (1, [vI 0, vI 0, .ref q1, .ref q2, .ref q3, .ref q4, .ref q5, .ref q6, vI 0, .ref q7, .null, .null])), (q1, .inl (c1, 6, .inl (fun _ => Int32.ofInt 0))), (q2, .inl (c2, 6, .inl (fun _ => Int32.ofInt 0))), (q3, .inl (c3, 6, .inl (fun _ => Int32.ofInt 0))), (q4, .inl (c4, 4, .inl (fun _ => Int32.ofInt 0))), (q5, .inl (c5, 4, .inl (fun _ => Int32.ofInt 0))), (q6, .inl (c6, 4, .inl (fun _ => Int32.ofInt 0))), (q7, .inl (c7, 7, .inl (fun _ => Int32.ofInt 0)))] := hD
  refine lv_aload_n hx hb d_M_init_57 rfl (lv_at hl 0 rfl) ?_
  refine lv_bipush (v := Int32.ofInt 7) hx hb d_M_init_58 (by decide) ?_
  refine va_newa (atype := .int) (ty := .int) (a0 := (7, .inl (fun _ => Int32.ofInt 0))) (N' := 7) hx hb (hts (.arrayClass .int) gw_arr_I) rfl hK hP hD hS hA (fun cA => by rw [vp_cell_i]; rfl) (by decide) (by decide) (by decide) (Nat.le_of_ble_eq_true rfl) (Nat.le_of_ble_eq_true rfl) d_M_init_60 (fun q8 c8 H hK hP hD hS => ?_)
  have hK : va_K (dC, dI) classes [(c1, .boolean), (c2, .int), (c3, .int), (c4, .boolean), (c5, .int), (c6, .int), (c7, .int), (c8, .int)] s := hK
  have hP : va_P (dC, dI) classes [(h0, .inr (1, [vI 0, vI 0, .ref q1, .ref q2, .ref q3, .ref q4, .ref q5, .ref q6, vI 0, .ref q7, .null, .null])), (q1, .inl (c1, 6, .inl (fun _ => Int32.ofInt 0))), (q2, .inl (c2, 6, .inl (fun _ => Int32.ofInt 0))), (q3, .inl (c3, 6, .inl (fun _ => Int32.ofInt 0))), (q4, .inl (c4, 4, .inl (fun _ => Int32.ofInt 0))), (q5, .inl (c5, 4, .inl (fun _ => Int32.ofInt 0))), (q6, .inl (c6, 4, .inl (fun _ => Int32.ofInt 0))), (q7, .inl (c7, 7, .inl (fun _ => Int32.ofInt 0))), (q8, .inl (c8, 7, .inl (fun _ => Int32.ofInt 0)))] H := hP
  have hD : va_D A [(h0, .inr (1, [vI 0, vI 0, .ref q1, .ref q2, .ref q3, .ref q4, .ref q5, .ref q6, vI 0, .ref q7, .null, .null])), (q1, .inl (c1, 6, .inl (fun _ => Int32.ofInt 0))), (q2, .inl (c2, 6, .inl (fun _ => Int32.ofInt 0))), (q3, .inl (c3, 6, .inl (fun _ => Int32.ofInt 0))), (q4, .inl (c4, 4, .inl (fun _ => Int32.ofInt 0))), (q5, .inl (c5, 4, .inl (fun _ => Int32.ofInt 0))), (q6, .inl (c6, 4, .inl (fun _ => Int32.ofInt 0))), (q7, .inl (c7, 7, .inl (fun _ => Int32.ofInt 0))), (q8, .inl (c8, 7, .inl (fun _ => Int32.ofInt 0)))] := hD
  refine W.widen (k := 8) (n := 44) (Nat.le_refl _) (Nat.le_refl _) ?_
  refine va_put (D := (dC, dI)) (ci := 1) (v := .ref q8) (ty := .array .int) (C := R_M) (T := F_M) (N := 12) hx hb hts ig_M t_M t_M_ok n_M hown hK hP hD hS 0 rfl rfl 10 (by decide) (hts (.fieldLink R_M 32 "EqualJobPlannerModel" "hi" "[I") gf_M_32) (fun _ h9 => h9) rfl (by decide +kernel) rfl rfl (Nat.le_of_ble_eq_true rfl) d_M_init_62 (fun H locs hP hD hS => ?_)
  have hP : va_P (dC, dI) classes [(h0, .inr (1, [vI 0, vI 0, .ref q1, .ref q2, .ref q3, .ref q4, .ref q5, .ref q6, vI 0, .ref q7, .ref q8, .null])), (q1, .inl (c1, 6, .inl (fun _ => Int32.ofInt 0))), (q2, .inl (c2, 6, .inl (fun _ => Int32.ofInt 0))), (q3, .inl (c3, 6, .inl (fun _ => Int32.ofInt 0))), (q4, .inl (c4, 4, .inl (fun _ => Int32.ofInt 0))), (q5, .inl (c5, 4, .inl (fun _ => Int32.ofInt 0))), (q6, .inl (c6, 4, .inl (fun _ => Int32.ofInt 0))), (q7, .inl (c7, 7, .inl (fun _ => Int32.ofInt 0))), (q8, .inl (c8, 7, .inl (fun _ => Int32.ofInt 0)))] H := hP
  have hD : va_D A [(h0, .inr (1, [vI 0, vI 0, .ref q1, .ref q2, .ref q3, .ref q4, .ref q5, .ref q6, vI 0, .ref q7, .ref q8, .null])), (q1, .inl (c1, 6, .inl (fun _ => Int32.ofInt 0))), (q2, .inl (c2, 6, .inl (fun _ => Int32.ofInt 0))), (q3, .inl (c3, 6, .inl (fun _ => Int32.ofInt 0))), (q4, .inl (c4, 4, .inl (fun _ => Int32.ofInt 0))), (q5, .inl (c5, 4, .inl (fun _ => Int32.ofInt 0))), (q6, .inl (c6, 4, .inl (fun _ => Int32.ofInt 0))), (q7, .inl (c7, 7, .inl (fun _ => Int32.ofInt 0))), (q8, .inl (c8, 7, .inl (fun _ => Int32.ofInt 0)))] := hD
  refine lv_aload_n hx hb d_M_init_65 rfl (lv_at hl 0 rfl) ?_
  refine lv_sipush (v := Int32.ofInt 5248) hx hb d_M_init_66 (by decide) ?_
  refine va_newa (atype := .boolean) (ty := .boolean) (a0 := (5248, .inl (fun _ => Int32.ofInt 0))) (N' := 5248) hx hb (hts (.arrayClass .boolean) gw_arr_Z) rfl hK hP hD hS hA (fun cA => by rw [vp_cell_i]; rfl) (by decide) (by decide) (by decide) (Nat.le_of_ble_eq_true rfl) (Nat.le_of_ble_eq_true rfl) d_M_init_69 (fun q9 c9 H hK hP hD hS => ?_)
  have hK : va_K (dC, dI) classes [(c1, .boolean), (c2, .int), (c3, .int), (c4, .boolean), (c5, .int), (c6, .int), (c7, .int), (c8, .int), (c9, .boolean)] s := hK
  have hP : va_P (dC, dI) classes [(h0, .inr (1, [vI 0, vI 0, .ref q1, .ref q2, .ref q3, .ref q4, .ref q5, .ref q6, vI 0, .ref q7, .ref q8, .null])), (q1, .inl (c1, 6, .inl (fun _ => Int32.ofInt 0))), (q2, .inl (c2, 6, .inl (fun _ => Int32.ofInt 0))), (q3, .inl (c3, 6, .inl (fun _ => Int32.ofInt 0))), (q4, .inl (c4, 4, .inl (fun _ => Int32.ofInt 0))), (q5, .inl (c5, 4, .inl (fun _ => Int32.ofInt 0))), (q6, .inl (c6, 4, .inl (fun _ => Int32.ofInt 0))), (q7, .inl (c7, 7, .inl (fun _ => Int32.ofInt 0))), (q8, .inl (c8, 7, .inl (fun _ => Int32.ofInt 0))), (q9, .inl (c9, 5248, .inl (fun _ => Int32.ofInt 0)))] H := hP
  have hD : va_D A [(h0, .inr (1, [vI 0, vI 0, .ref q1, .ref q2, .ref q3, .ref q4, .ref q5, .ref q6, vI 0, .ref q7, .ref q8, .null])), (q1, .inl (c1, 6, .inl (fun _ => Int32.ofInt 0))), (q2, .inl (c2, 6, .inl (fun _ => Int32.ofInt 0))), (q3, .inl (c3, 6, .inl (fun _ => Int32.ofInt 0))), (q4, .inl (c4, 4, .inl (fun _ => Int32.ofInt 0))), (q5, .inl (c5, 4, .inl (fun _ => Int32.ofInt 0))), (q6, .inl (c6, 4, .inl (fun _ => Int32.ofInt 0))), (q7, .inl (c7, 7, .inl (fun _ => Int32.ofInt 0))), (q8, .inl (c8, 7, .inl (fun _ => Int32.ofInt 0))), (q9, .inl (c9, 5248, .inl (fun _ => Int32.ofInt 0)))] := hD
  refine W.widen (k := 9) (n := 5292) (Nat.le_refl _) (Nat.le_refl _) ?_
  refine va_put (D := (dC, dI)) (ci := 1) (v := .ref q9) (ty := .array .boolean) (C := R_M) (T := F_M) (N := 12) hx hb hts ig_M t_M t_M_ok n_M hown hK hP hD hS 0 rfl rfl 11 (by decide) (hts (.fieldLink R_M 35 "EqualJobPlannerModel" "can" "[Z") gf_M_35) (fun _ h9 => h9) rfl (by decide +kernel) rfl rfl (Nat.le_of_ble_eq_true rfl) d_M_init_71 (fun H locs hP hD hS => ?_)
  have hP : va_P (dC, dI) classes [(h0, .inr (1, [vI 0, vI 0, .ref q1, .ref q2, .ref q3, .ref q4, .ref q5, .ref q6, vI 0, .ref q7, .ref q8, .ref q9])), (q1, .inl (c1, 6, .inl (fun _ => Int32.ofInt 0))), (q2, .inl (c2, 6, .inl (fun _ => Int32.ofInt 0))), (q3, .inl (c3, 6, .inl (fun _ => Int32.ofInt 0))), (q4, .inl (c4, 4, .inl (fun _ => Int32.ofInt 0))), (q5, .inl (c5, 4, .inl (fun _ => Int32.ofInt 0))), (q6, .inl (c6, 4, .inl (fun _ => Int32.ofInt 0))), (q7, .inl (c7, 7, .inl (fun _ => Int32.ofInt 0))), (q8, .inl (c8, 7, .inl (fun _ => Int32.ofInt 0))), (q9, .inl (c9, 5248, .inl (fun _ => Int32.ofInt 0)))] H := hP
  have hD : va_D A [(h0, .inr (1, [vI 0, vI 0, .ref q1, .ref q2, .ref q3, .ref q4, .ref q5, .ref q6, vI 0, .ref q7, .ref q8, .ref q9])), (q1, .inl (c1, 6, .inl (fun _ => Int32.ofInt 0))), (q2, .inl (c2, 6, .inl (fun _ => Int32.ofInt 0))), (q3, .inl (c3, 6, .inl (fun _ => Int32.ofInt 0))), (q4, .inl (c4, 4, .inl (fun _ => Int32.ofInt 0))), (q5, .inl (c5, 4, .inl (fun _ => Int32.ofInt 0))), (q6, .inl (c6, 4, .inl (fun _ => Int32.ofInt 0))), (q7, .inl (c7, 7, .inl (fun _ => Int32.ofInt 0))), (q8, .inl (c8, 7, .inl (fun _ => Int32.ofInt 0))), (q9, .inl (c9, 5248, .inl (fun _ => Int32.ofInt 0)))] := hD
  refine lv_aload_n hx hb d_M_init_74 rfl (lv_at hl 0 rfl) ?_
  refine w_clamp (x := a) hx hb a1 a2 (lv_at hl 1 rfl) rfl d_M_init_75 d_M_init_76 d_M_init_77 d_M_init_80 d_M_init_81 d_M_init_84 d_M_init_85 d_M_init_87 d_M_init_90 d_M_init_92 d_M_init_95 ?_
  refine va_put (D := (dC, dI)) (ci := 1) (v := vI (clamp6 a)) (ty := .int) (C := R_M) (T := F_M) (N := 12) hx hb hts ig_M t_M t_M_ok n_M hown hK hP hD hS 0 rfl rfl 0 (by decide) (hts (.fieldLink R_M 38 "EqualJobPlannerModel" "len" "I") gf_M_38) (fun _ h9 => h9) rfl (by decide +kernel) rfl rfl (Nat.le_of_ble_eq_true rfl) d_M_init_96 (fun H locs hP hD hS => ?_)
  have hP : va_P (dC, dI) classes [(h0, .inr (1, [vI (clamp6 a), vI 0, .ref q1, .ref q2, .ref q3, .ref q4, .ref q5, .ref q6, vI 0, .ref q7, .ref q8, .ref q9])), (q1, .inl (c1, 6, .inl (fun _ => Int32.ofInt 0))), (q2, .inl (c2, 6, .inl (fun _ => Int32.ofInt 0))), (q3, .inl (c3, 6, .inl (fun _ => Int32.ofInt 0))), (q4, .inl (c4, 4, .inl (fun _ => Int32.ofInt 0))), (q5, .inl (c5, 4, .inl (fun _ => Int32.ofInt 0))), (q6, .inl (c6, 4, .inl (fun _ => Int32.ofInt 0))), (q7, .inl (c7, 7, .inl (fun _ => Int32.ofInt 0))), (q8, .inl (c8, 7, .inl (fun _ => Int32.ofInt 0))), (q9, .inl (c9, 5248, .inl (fun _ => Int32.ofInt 0)))] H := hP
  have hD : va_D A [(h0, .inr (1, [vI (clamp6 a), vI 0, .ref q1, .ref q2, .ref q3, .ref q4, .ref q5, .ref q6, vI 0, .ref q7, .ref q8, .ref q9])), (q1, .inl (c1, 6, .inl (fun _ => Int32.ofInt 0))), (q2, .inl (c2, 6, .inl (fun _ => Int32.ofInt 0))), (q3, .inl (c3, 6, .inl (fun _ => Int32.ofInt 0))), (q4, .inl (c4, 4, .inl (fun _ => Int32.ofInt 0))), (q5, .inl (c5, 4, .inl (fun _ => Int32.ofInt 0))), (q6, .inl (c6, 4, .inl (fun _ => Int32.ofInt 0))), (q7, .inl (c7, 7, .inl (fun _ => Int32.ofInt 0))), (q8, .inl (c8, 7, .inl (fun _ => Int32.ofInt 0))), (q9, .inl (c9, 5248, .inl (fun _ => Int32.ofInt 0)))] := hD
  refine lv_aload_n hx hb d_M_init_99 rfl (lv_at hl 0 rfl) ?_
  refine w_clamp (x := b) hx hb b1 b2 (lv_at hl 2 rfl) rfl d_M_init_100 d_M_init_101 d_M_init_102 d_M_init_105 d_M_init_106 d_M_init_109 d_M_init_110 d_M_init_112 d_M_init_115 d_M_init_117 d_M_init_120 ?_
  refine va_put (D := (dC, dI)) (ci := 1) (v := vI (clamp6 b)) (ty := .int) (C := R_M) (T := F_M) (N := 12) hx hb hts ig_M t_M t_M_ok n_M hown hK hP hD hS 0 rfl rfl 1 (by decide) (hts (.fieldLink R_M 42 "EqualJobPlannerModel" "cap" "I") gf_M_42) (fun _ h9 => h9) rfl (by decide +kernel) rfl rfl (Nat.le_of_ble_eq_true rfl) d_M_init_121 (fun H locs hP hD hS => ?_)
  have hP : va_P (dC, dI) classes [(h0, .inr (1, [vI (clamp6 a), vI (clamp6 b), .ref q1, .ref q2, .ref q3, .ref q4, .ref q5, .ref q6, vI 0, .ref q7, .ref q8, .ref q9])), (q1, .inl (c1, 6, .inl (fun _ => Int32.ofInt 0))), (q2, .inl (c2, 6, .inl (fun _ => Int32.ofInt 0))), (q3, .inl (c3, 6, .inl (fun _ => Int32.ofInt 0))), (q4, .inl (c4, 4, .inl (fun _ => Int32.ofInt 0))), (q5, .inl (c5, 4, .inl (fun _ => Int32.ofInt 0))), (q6, .inl (c6, 4, .inl (fun _ => Int32.ofInt 0))), (q7, .inl (c7, 7, .inl (fun _ => Int32.ofInt 0))), (q8, .inl (c8, 7, .inl (fun _ => Int32.ofInt 0))), (q9, .inl (c9, 5248, .inl (fun _ => Int32.ofInt 0)))] H := hP
  have hD : va_D A [(h0, .inr (1, [vI (clamp6 a), vI (clamp6 b), .ref q1, .ref q2, .ref q3, .ref q4, .ref q5, .ref q6, vI 0, .ref q7, .ref q8, .ref q9])), (q1, .inl (c1, 6, .inl (fun _ => Int32.ofInt 0))), (q2, .inl (c2, 6, .inl (fun _ => Int32.ofInt 0))), (q3, .inl (c3, 6, .inl (fun _ => Int32.ofInt 0))), (q4, .inl (c4, 4, .inl (fun _ => Int32.ofInt 0))), (q5, .inl (c5, 4, .inl (fun _ => Int32.ofInt 0))), (q6, .inl (c6, 4, .inl (fun _ => Int32.ofInt 0))), (q7, .inl (c7, 7, .inl (fun _ => Int32.ofInt 0))), (q8, .inl (c8, 7, .inl (fun _ => Int32.ofInt 0))), (q9, .inl (c9, 5248, .inl (fun _ => Int32.ofInt 0)))] := hD
  have e3 : c2 = c3 := Option.some.inj ((hK.2 1 _ rfl).2.symm.trans (hK.2 2 _ rfl).2)
  have e4 : c1 = c4 := Option.some.inj ((hK.2 0 _ rfl).2.symm.trans (hK.2 3 _ rfl).2)
  have e5 : c2 = c5 := Option.some.inj ((hK.2 1 _ rfl).2.symm.trans (hK.2 4 _ rfl).2)
  have e6 : c2 = c6 := Option.some.inj ((hK.2 1 _ rfl).2.symm.trans (hK.2 5 _ rfl).2)
  have e7 : c2 = c7 := Option.some.inj ((hK.2 1 _ rfl).2.symm.trans (hK.2 6 _ rfl).2)
  have e8 : c2 = c8 := Option.some.inj ((hK.2 1 _ rfl).2.symm.trans (hK.2 7 _ rfl).2)
  have e9 : c1 = c9 := Option.some.inj ((hK.2 0 _ rfl).2.symm.trans (hK.2 8 _ rfl).2)
  subst e3
  subst e4
  subst e5
  subst e6
  subst e7
  subst e8
  subst e9
  have hP9 : va_P (dC, dI) classes (MW ((dC, dI), (fun k => [h0, q1, q2, q3, q4, q5, q6, q7, q8, q9].getD k 0), c1, 0, c2) (S0 a b)) H := hP
  have hD9 : va_D A (MW ((dC, dI), (fun k => [h0, q1, q2, q3, q4, q5, q6, q7, q8, q9].getD k 0), c1, 0, c2) (S0 a b)) := hD
  have hK9 := hK.sub (tys' := [(c1, .boolean), (c2, .int)]) [0, 1] rfl
  exact W.vret hx hb hr (fun t ht hW => ⟨⟨((fun k => [h0, q1, q2, q3, q4, q5, q6, q7, q8, q9].getD k 0), c1, c2), rfl, rfl, by rw [ht]; exact hP9, va_K.moved hW.alike hK9, hD9⟩, hS.F ht⟩) hS.2.2 d_M_init_124
end
section
/-! THE CLAIM OUT OF ONE WALK OF THE LAW'S BODY. Your part is whole_start (and what it stands on); all else here is the same for every law, but numbers. -/
def lw_P (b : Addr) (xs : List Int32) (args : Array Value) (s : State) : Prop := args = #[.ref b] ∧ s.IntsAt b xs ∧ xs.length ≤ 2050 ∧ (Jvm.Cond.and given_1 narrow_1).before args s = true
def lw_Q (_ : Array Value) (s : State) (o : Outcome) (t : State) : Prop := o = .returned (some (.int 1)) ∧ Framed s o t [] 22 5436
def lw_Z (below : List Frame) (a : Array Value) (s : State) : State → Prop := fun t => ∃ o, t.status = .running ∧ Ended t below o ∧ lw_Q a s o t
/-- the law's own end, with 1 on the stack, nothing written that was there before, its room as the claim has it -/
theorem lw_ret {p : Program} {l : Launch} {e : Env} {s : State} {m : MethodId} {below : List Frame} {meth : Method} {c : Code} {b : Nat} (hx : p.tables.exec = Jvm.exec) (hb : c.code = code) (hr : meth.sig.returnType = ret) (hlocks : meth.locks = false) {pc : Nat} {H : Heap} {ls : Array Slot} (hdg : decode code pc = .ok (.ireturn, 1)) : W p l e room_1 s m #[Value.ref b] below meth c H [] 22 5436 (lw_Z below #[Value.ref b] s) (F0 m pc ls [.int 1]) := by
  intro T hT X
  obtain ⟨fs, hret, hrun, hended, hW, hframe⟩ := X.leave (v := some (.int 1)) (hlocks := hlocks) (fun h => by rw [hr] at h; cases h)
  have hmeth' : T.vm.method? m = some meth := X.method'
  refine ⟨T.setFrames fs, ?_, .returned (some (.int 1)), hrun, hended, rfl, ⟨_, rfl⟩, hW, hframe⟩
  jvm_step X.here [X.here.top, hx, hb, hdg, hmeth', hr, ret, narrow_b1]
  (try refine ⟨rfl, ?_⟩); (try refine ⟨rfl, ?_⟩)
  first | (intro acts; rw [hret _ acts rfl rfl rfl]) | rw [hret _ _ rfl rfl rfl]
  exact Steps.refl _
/-- what holds at the law's entry: the machine, the code, the tables' words (any of lw_tbl by 'hts w (by decide +kernel)'), the script of L ints xs at the cell b, what the Statement gives of the start (any of its parts by flat_of_before) -/
def lw_At (p : Program) (s : State) (m : MethodId) (meth : Method) (c : Code) (b L : Nat) (xs : Nat → Int32) : Prop :=
  p.tables.exec = Jvm.exec ∧ c.code = code ∧ meth.sig.returnType = ret ∧ c.maxLocals = 4 ∧ s.vm.findClass R_law = some m.cls ∧ (∀ w ∈ lw_tbl, w.before #[Value.ref b] s = true) ∧ va_X b L xs s s.heap ∧ b < s.heap.size ∧ meth.locks = false ∧ (Jvm.Cond.and given_1 narrow_1).before #[Value.ref b] s = true
end
section
-- THE LAW: the judgement JL over both worlds
def cellV (L : Nat) (xs : Nat → Int32) (k : Int) : Int := if k < L then (xs k.toNat).toInt else 0
theorem gs_cell : Cond.static y_L_cell ∈ gw_tbl := gw_of (lw_in1 212 rfl) rfl
theorem gc_cell : Cond.code y_L_cell b_L_cell 2 (some .int) ∈ gw_tbl := gw_of (lw_in1 213 rfl) rfl
set_option maxHeartbeats 4000000 in
set_option maxRecDepth 100000 in
theorem c_L_cell (l : Launch) (b L : Nat) (xs : Nat → Int32) (hL : L ≤ 2050) (k : Int) (k0 : 0 ≤ k) (k1 : k ≤ 1000) : Met l y_L_cell (.code y_L_cell b_L_cell 2 (some .int) :: gw_tbl) { frames := 0, cells := 0, slots := 0, locals := 0 } (va_Pc [.ref b, vI k] (fun U => va_X b L xs U U.heap)) (va_Qi (fun r (_ : Unit) => r = Int32.ofInt (cellV L xs k)) (fun _ _ => True) (fun _ => False)) 0 0 (fun _ => False) := by
  refine Met.ofW (cc := b_L_cell) (maxL := 2) (ret := some .int) (by decide) rfl ?_
  intro p e s m args below meth c s₁ B hml hv
  obtain ⟨rfl, hX⟩ := hv
  have hx := B.exec
  have hb := B.bytes
  have hr := B.returns
  have hlocks := B.notSynchronized
  have hbl : b < s.heap.size := by
    obtain ⟨scr, h1, -⟩ := hX
    exact (Array.getElem?_eq_some_iff.mp h1).1
  have hS : va_S (fun _ => False) s.heap s.heap [] := va_S.rf
  have hbA : ¬ (fun _ : Nat => False) b := fun h => h
  have hl := lv_entry ([.ref b, vI k]) (n := 2) (Nat.le_of_ble_eq_true rfl)
  rw [lg_entry_eq]
  generalize (lg_sl ([.ref b, vI k]) ++ List.replicate (2 - (lg_sl ([.ref b, vI k])).length) Slot.unset).toArray = ls at hl ⊢
  have hl : lv_has ls 2 [(0, .ref b), (1, vI k)] := hl
  refine lv_iload_n (x := Int32.ofInt k) hx hb d_L_cell_0 rfl (lv_at hl 1 rfl) ?_
  refine lv_aload_n hx hb d_L_cell_1 rfl (lv_at hl 0 rfl) ?_
  refine va_slen hx hb hX hbl hbA hS d_L_cell_2 ?_
  have eL : Int32.ofNat L = Int32.ofInt (L : Int) := (oi_nat L).symm
  rw [eL]
  refine lv_icmp_ge (tgt := 12) hx hb d_L_cell_3 (by decide) (fun q => ?_) (fun q => ?_)
  · rw [oi_le (by omega) (by omega) (by omega) (by omega)] at q
    refine lv_iconst (v := Int32.ofInt 0) hx hb d_L_cell_12 (by decide) ?_
    exact W.iret (v := Int32.ofInt 0) hx hb hr (fun t ht hW => ⟨⟨_, (), rfl, by unfold cellV; rw [if_neg (by omega)], trivial⟩, hS.F ht⟩) hS.2.2 d_L_cell_13
  · rw [oi_le (by omega) (by omega) (by omega) (by omega)] at q
    refine lv_aload_n hx hb d_L_cell_6 rfl (lv_at hl 0 rfl) ?_
    refine lv_iload_n (x := Int32.ofInt k) hx hb d_L_cell_7 rfl (lv_at hl 1 rfl) ?_
    refine va_sld hx hb hX hbl hbA hS (oi_in k0 (by omega) (by omega)) d_L_cell_8 ?_
    refine lv_goto (tgt := 13) hx hb d_L_cell_9 (by decide) ?_
    exact W.iret (v := xs (Int32.ofInt k).toNatClampNeg) hx hb hr (fun t ht hW => ⟨⟨_, (), rfl, by unfold cellV; rw [if_pos (by omega), oi_clamp k0 (by omega), Int32.ofInt_toInt], trivial⟩, hS.F ht⟩) hS.2.2 d_L_cell_13
abbrev Lx : Type := Program × Launch × Env × State × MethodId × List Frame × Method × Code × Gm × Gm × Nat × Nat × (Nat → Int32)
def lP (Y : Lx) : Program := Y.1
def lL (Y : Lx) : Launch := Y.2.1
def lE (Y : Lx) : Env := Y.2.2.1
def lS (Y : Lx) : State := Y.2.2.2.1
def lM (Y : Lx) : MethodId := Y.2.2.2.2.1
def lB (Y : Lx) : List Frame := Y.2.2.2.2.2.1
def lMe (Y : Lx) : Method := Y.2.2.2.2.2.2.1
def lC (Y : Lx) : Code := Y.2.2.2.2.2.2.2.1
def lZP (Y : Lx) : Gm := Y.2.2.2.2.2.2.2.2.1
def lZM (Y : Lx) : Gm := Y.2.2.2.2.2.2.2.2.2.1
def lb (Y : Lx) : Nat := Y.2.2.2.2.2.2.2.2.2.2.1
def lLen (Y : Lx) : Nat := Y.2.2.2.2.2.2.2.2.2.2.2.1
def lxs (Y : Lx) : Nat → Int32 := Y.2.2.2.2.2.2.2.2.2.2.2.2
def AL (Y : Lx) : Nat → Prop := fun q => (lS Y).heap.size ≤ q
def WL (Y : Lx) (S M : St) : va_W := PW (lZP Y) S ++ MW (lZM Y) M
def sv (Y : Lx) (k : Int) : Int := (lxs Y k.toNat).toInt
theorem sv_lo (Y : Lx) (k : Int) : -2147483648 ≤ sv Y k := by have := Int32.le_toInt (lxs Y k.toNat); unfold sv; omega
theorem sv_hi (Y : Lx) (k : Int) : sv Y k ≤ 2147483647 := by have := Int32.toInt_lt (lxs Y k.toNat); unfold sv; omega
def JL (Y : Lx) (S M : St) (pc : Nat) (L : List (Option Value)) (st : List Value) : Prop := okP S → okM M → ∀ (H : Heap) (locs : List Loc) (ls : Array Slot), va_P (lZP Y).1 classes (WL Y S M) H → va_D (AL Y) (WL Y S M) → va_S (AL Y) (lS Y).heap H locs → lo_has ls 4 L →
  W (lP Y) (lL Y) (lE Y) room_1 (lS Y) (lM Y) #[Value.ref (lb Y)] (lB Y) (lMe Y) (lC Y) H locs 22 5436 (lw_Z (lB Y) #[Value.ref (lb Y)] (lS Y)) (F0 (lM Y) pc ls st)
def CL (Y : Lx) : Prop := lw_At (lP Y) (lS Y) (lM Y) (lMe Y) (lC Y) (lb Y) (lLen Y) (lxs Y) ∧ lLen Y ≤ 2050 ∧ (lZM Y).1 = (lZP Y).1 ∧ va_K (lZP Y).1 classes (tysOf (lZP Y)) (lS Y) ∧ va_K (lZM Y).1 classes (tysOf (lZM Y)) (lS Y)
section JLr
variable {Y : Lx} {S M : St} {pc : Nat} {L : List (Option Value)} {st : List Value}
theorem CL.x (h : CL Y) : (lP Y).tables.exec = Jvm.exec := h.1.1
theorem CL.b (h : CL Y) : (lC Y).code = code := h.1.2.1
theorem CL.ts (h : CL Y) : ∀ w ∈ gw_tbl, w.before #[Value.ref (lb Y)] (lS Y) = true := fun w hw => h.1.2.2.2.2.2.1 w (gw_in hw)
theorem JL.ok (k : okP S → okM M → JL Y S M pc L st) : JL Y S M pc L st := fun h1 h2 => k h1 h2 h1 h2
theorem jl_iconst (hC : CL Y) {n : Int} (hd : decode code pc = .ok (.iconst n, 1)) (k : JL Y S M (pc + 1) L (vI n :: st)) : JL Y S M pc L st :=
  fun o1 o2 H locs ls hP hD hS hl => lv_iconst hC.x hC.b hd rfl (k o1 o2 H locs ls hP hD hS hl)
theorem jl_iload_n (hC : CL Y) {k : Fin 4} {x : Int} (hd : decode code pc = .ok (.iload_n k, 1)) (hL : L[(k : Nat)]? = some (some (vI x))) (kk : JL Y S M (pc + 1) L (vI x :: st)) : JL Y S M pc L st :=
  fun o1 o2 H locs ls hP hD hS hl => lv_iload_n hC.x hC.b hd rfl (hl.2.2 _ _ hL).1 (kk o1 o2 H locs ls hP hD hS hl)
theorem jl_aload_n (hC : CL Y) {k : Fin 4} {x : Nat} (hd : decode code pc = .ok (.aload_n k, 1)) (hL : L[(k : Nat)]? = some (some (.ref x))) (kk : JL Y S M (pc + 1) L (.ref x :: st)) : JL Y S M pc L st :=
  fun o1 o2 H locs ls hP hD hS hl => lv_aload_n hC.x hC.b hd rfl (hl.2.2 _ _ hL).1 (kk o1 o2 H locs ls hP hD hS hl)
theorem jl_iadd (hC : CL Y) {x y : Int} (hd : decode code pc = .ok (.iadd, 1)) (k : JL Y S M (pc + 1) L (vI (x + y) :: st)) : JL Y S M pc L (vI y :: vI x :: st) :=
  fun o1 o2 H locs ls hP hD hS hl => lv_iadd hC.x hC.b hd (by rw [← Int32.ofInt_add]; exact k o1 o2 H locs ls hP hD hS hl)
theorem jl_isub (hC : CL Y) {x y : Int} (hd : decode code pc = .ok (.isub, 1)) (k : JL Y S M (pc + 1) L (vI (x - y) :: st)) : JL Y S M pc L (vI y :: vI x :: st) :=
  fun o1 o2 H locs ls hP hD hS hl => lv_isub hC.x hC.b hd (by rw [← Int32.ofInt_sub]; exact k o1 o2 H locs ls hP hD hS hl)
theorem jl_goto (hC : CL Y) {off : Int} {tgt : Nat} (hd : decode code pc = .ok (.goto off, 3)) (ht : (pc : Int) + off = (tgt : Int)) (k : JL Y S M tgt L st) : JL Y S M pc L st :=
  fun o1 o2 H locs ls hP hD hS hl => lv_goto hC.x hC.b hd ht (k o1 o2 H locs ls hP hD hS hl)
theorem jl_iinc3 (hC : CL Y) {a0 a1 a2 : Option Value} {n x : Int} (hd : decode code pc = .ok (.iinc 3 n, 3)) (kk : JL Y S M (pc + 3) [a0, a1, a2, some (vI (x + n))] st) : JL Y S M pc [a0, a1, a2, some (vI x)] st :=
  fun o1 o2 H locs ls hP hD hS hl => by
    obtain ⟨k, hk⟩ := List.getElem?_of_mem (lo_p_mem (L := [a0, a1, a2, some (vI x)]) (q := (3, vI x)).mpr rfl)
    exact lv_iinc hC.x hC.b hd (lo_lv hl) hk (Int32.ofInt_add x n).symm (by decide) rfl (fun ls' hl' => kk o1 o2 H locs ls' hP hD hS (lo_set rfl hl (lo_f _) hl'))
theorem jl_icmp_gt (hC : CL Y) {x y off : Int} {tgt : Nat} (hd : decode code pc = .ok (.if_icmp .gt off, 3)) (ht : (pc : Int) + off = (tgt : Int)) (kt : y < x → JL Y S M tgt L st) (kf : x ≤ y → JL Y S M (pc + 3) L st) (x1 : -2147483648 ≤ x := by omega) (x2 : x ≤ 2147483647 := by omega) (y1 : -2147483648 ≤ y := by omega) (y2 : y ≤ 2147483647 := by omega) : JL Y S M pc L (vI y :: vI x :: st) :=
  fun o1 o2 H locs ls hP hD hS hl => lv_icmp_gt hC.x hC.b hd ht (fun q => kt ((oi_lt y1 y2 x1 x2).mp q) o1 o2 H locs ls hP hD hS hl) (fun q => kf (Int.not_lt.mp (fun e => q ((oi_lt y1 y2 x1 x2).mpr e))) o1 o2 H locs ls hP hD hS hl)
/-- two equal answers -/
theorem jl_eq (hC : CL Y) {x y off : Int} {tgt : Nat} (hd : decode code pc = .ok (.if_icmp .eq off, 3)) (ht : (pc : Int) + off = (tgt : Int)) (h : x = y) (kt : JL Y S M tgt L st) : JL Y S M pc L (vI y :: vI x :: st) :=
  fun o1 o2 H locs ls hP hD hS hl => lv_icmp_eq hC.x hC.b hd ht (fun _ => kt o1 o2 H locs ls hP hD hS hl) (fun q => absurd (by rw [h]) q)
theorem CL.bA (h : CL Y) : ¬ AL Y (lb Y) := Nat.not_le.mpr h.1.2.2.2.2.2.2.2.1
theorem jl_len (hC : CL Y) (hd : decode code pc = .ok (.arraylength, 1)) (k : JL Y S M (pc + 1) L (vI (lLen Y) :: st)) : JL Y S M pc L (.ref (lb Y) :: st) :=
  fun o1 o2 H locs ls hP hD hS hl => va_slen hC.x hC.b hC.1.2.2.2.2.2.2.1 hC.1.2.2.2.2.2.2.2.1 hC.bA hS hd (by rw [show Int32.ofNat (lLen Y) = Int32.ofInt ((lLen Y : Nat) : Int) from (oi_nat _).symm]; exact k o1 o2 H locs ls hP hD hS hl)
theorem jl_sld (hC : CL Y) {i : Int} (hd : decode code pc = .ok (.iaload, 1)) (k : JL Y S M (pc + 1) L (vI (sv Y i) :: st)) (h1 : 0 ≤ i := by omega) (h2 : i < lLen Y := by omega) : JL Y S M pc L (vI i :: .ref (lb Y) :: st) :=
  fun o1 o2 H locs ls hP hD hS hl => by
    have hN := hC.2.1
    refine va_sld hC.x hC.b hC.1.2.2.2.2.2.2.1 hC.1.2.2.2.2.2.2.2.1 hC.bA hS (oi_in h1 h2 (by omega)) hd ?_
    rw [oi_clamp h1 (by omega), show lxs Y i.toNat = Int32.ofInt (sv Y i) from (Int32.ofInt_toInt _).symm]
    exact k o1 o2 H locs ls hP hD hS hl
/-- what a call needs beside its contract -/
def CWL (idx : Nat) (y : MethodName) (b : ByteArray) (n : Nat) (r : Option FieldType) (lv k : Nat) : Prop :=
  Cond.methodLink R_law idx y ∈ gw_tbl ∧ gw_m y b n r ∧ Cond.initialized y.cls ∈ gw_tbl ∧ (y.cls ≠ "java/lang/invoke/MethodHandle" ∧ y.cls ≠ "java/lang/invoke/VarHandle" ∧ (parseMethodDescriptor y.desc).map (fun d => d.parameters.length) = some k) ∧ lv + 1 ≤ 9 ∧ 8 + (n + 11) + 27 * lv ≤ 326
variable {y : MethodName} {b : ByteArray} {n lv idx : Nat} {rt : FieldType} {post' : Int → St → Prop}
theorem CWL.cw {k : Nat} {r : Option FieldType} (h : CWL idx y b n r lv k) (hC : CL Y) : CallW room_1 (lS Y) #[Value.ref (lb Y)] R_law y.cls idx y b n r (.code y b n r :: gw_tbl) (rmk lv) 0 0 k := by
  obtain ⟨h1, h2, h3, h4, h5, h6⟩ := h
  exact cwV k hC.ts (gw_call (c0 := Cond.initialized R_law) h1 h2 h3) rfl rfl rfl ⟨rfl, h4⟩ ⟨h5, h6⟩
theorem jl_callP {xs : List Int} (hC : CL Y) (hw : CWL idx y b n (some rt) lv xs.length) (hy : y.cls = R_P) (hd : decode code pc = .ok (.invokevirtual idx, 3)) (hM : Ct PW okP y b n (some rt) lv xs S post') (hst : (st.map fun v => v.category).sum ≤ 8)
    (k : ∀ (z : Int) (S' : St), post' z S' → okP S' → JL Y S' M (pc + 3) L (vI z :: st)) : JL Y S M pc L ((xs.map vI).reverse ++ .ref ((lZP Y).2.1 0) :: st) := by
  intro o1 o2 H locs ls hP hD hS hl
  have hA : ∀ q : Nat, (lS Y).heap.size ≤ q → AL Y q := fun _ h => h
  have hPc := hP.sub (ws' := PW (lZP Y) S) [0, 1, 2, 3, 4, 5, 6, 7, 8, 9, 10, 11] rfl
  have hDc := hD.sub (ws' := PW (lZP Y) S) [0, 1, 2, 3, 4, 5, 6, 7, 8, 9, 10, 11] (by decide) rfl
  have hKc := hC.2.2.2.1
  have hFc := va_free (wc := PW (lZP Y) S) hD hS hA [0, 1, 2, 3, 4, 5, 6, 7, 8, 9, 10, 11] rfl
  refine va_calli (va_runV (As := xs.map vI) (rest := st) (C := y.cls) (n := xs.length) ⟨hC.x, hC.b, hC.1.2.2.2.1, hC.1.2.2.2.2.1, hC.ts⟩ (hM (lL Y) (lZP Y) H.size) (hw.cw hC) ⟨fun a U g mk q => by obtain ⟨q0, q1, qP, qK, qD⟩ := q; exact ⟨q0, q1, qP, va_K.moved (u := U) (U := U.calling g mk a) (Vm.Alike.refl U.vm) qK, qD⟩, by rw [hy]; exact va_recv hKc hPc (ci := 0) (q0 := 0) rfl rfl, fun U hU hW => ⟨rfl, by rw [hU], by rw [hU]; exact hPc, va_K.moved hW.alike hKc, hDc.weaken (fun _ _ _ _ => trivial)⟩⟩ rfl (by simp) hl.1 rfl (lv_room hst) hd ⟨Nat.le_of_ble_eq_true rfl, Nat.le_of_ble_eq_true rfl⟩) hS (fun q _ h => hFc q h) hFc (fun r u t H1 locs ht hvm hw hB hz1 hk1 hS => ?_)
  obtain ⟨z, rfl, hp, hou⟩ := hw
  obtain ⟨hP1, hK1, hD1⟩ := hB
  rw [ht] at hP1
  obtain ⟨hP2, hD2⟩ := va_join (wr := MW (lZM Y) M) (w1 := PW (lZP Y) u) hP hD [0, 1, 2, 3, 4, 5, 6, 7, 8, 9, 10, 11] [12, 13, 14, 15, 16, 17, 18, 19, 20, 21] rfl rfl (by decide) (by decide) hk1 hFc hP1 hD1
  exact k z u hp hou hou o2 H1 locs ls (hP2.sub (ws' := WL Y u M) [10, 11, 12, 13, 14, 15, 16, 17, 18, 19, 20, 21, 0, 1, 2, 3, 4, 5, 6, 7, 8, 9] rfl) (hD2.sub (ws' := WL Y u M) [10, 11, 12, 13, 14, 15, 16, 17, 18, 19, 20, 21, 0, 1, 2, 3, 4, 5, 6, 7, 8, 9] (by decide) rfl) hS hl
theorem jl_callM {xs : List Int} (hC : CL Y) (hw : CWL idx y b n (some rt) lv xs.length) (hy : y.cls = R_M) (hd : decode code pc = .ok (.invokevirtual idx, 3)) (hM : Ct MW okM y b n (some rt) lv xs M post') (hst : (st.map fun v => v.category).sum ≤ 8)
    (k : ∀ (z : Int) (M' : St), post' z M' → okM M' → JL Y S M' (pc + 3) L (vI z :: st)) : JL Y S M pc L ((xs.map vI).reverse ++ .ref ((lZM Y).2.1 0) :: st) := by
  intro o1 o2 H locs ls hP hD hS hl
  have hA : ∀ q : Nat, (lS Y).heap.size ≤ q → AL Y q := fun _ h => h
  have hPc : va_P (lZM Y).1 classes (MW (lZM Y) M) H := by rw [hC.2.2.1]; exact hP.sub (ws' := MW (lZM Y) M) [12, 13, 14, 15, 16, 17, 18, 19, 20, 21] rfl
  have hDc := hD.sub (ws' := MW (lZM Y) M) [12, 13, 14, 15, 16, 17, 18, 19, 20, 21] (by decide) rfl
  have hKc := hC.2.2.2.2
  have hFc := va_free (wc := MW (lZM Y) M) hD hS hA [12, 13, 14, 15, 16, 17, 18, 19, 20, 21] rfl
  refine va_calli (va_runV (As := xs.map vI) (rest := st) (C := y.cls) (n := xs.length) ⟨hC.x, hC.b, hC.1.2.2.2.1, hC.1.2.2.2.2.1, hC.ts⟩ (hM (lL Y) (lZM Y) H.size) (hw.cw hC) ⟨fun a U g mk q => by obtain ⟨q0, q1, qP, qK, qD⟩ := q; exact ⟨q0, q1, qP, va_K.moved (u := U) (U := U.calling g mk a) (Vm.Alike.refl U.vm) qK, qD⟩, by rw [hy]; exact va_recv hKc hPc (ci := 1) (q0 := 0) rfl rfl, fun U hU hW => ⟨rfl, by rw [hU], by rw [hU]; exact hPc, va_K.moved hW.alike hKc, hDc.weaken (fun _ _ _ _ => trivial)⟩⟩ rfl (by simp) hl.1 rfl (lv_room hst) hd ⟨Nat.le_of_ble_eq_true rfl, Nat.le_of_ble_eq_true rfl⟩) hS (fun q _ h => hFc q h) hFc (fun r u t H1 locs ht hvm hw hB hz1 hk1 hS => ?_)
  obtain ⟨z, rfl, hp, hou⟩ := hw
  obtain ⟨hP1, hK1, hD1⟩ := hB
  rw [ht, hC.2.2.1] at hP1
  obtain ⟨hP2, hD2⟩ := va_join (wr := PW (lZP Y) S) (w1 := MW (lZM Y) u) hP hD [12, 13, 14, 15, 16, 17, 18, 19, 20, 21] [0, 1, 2, 3, 4, 5, 6, 7, 8, 9, 10, 11] rfl rfl (by decide) (by decide) hk1 hFc hP1 hD1
  exact k z u hp hou o1 hou H1 locs ls hP2 hD2 hS hl
end JLr
end
section
-- THE LAW'S FIFTEEN CASES: printed by gen/casegen.py
section Cases
variable {Y : Lx} {S M : St} {pc : Nat} {L : List (Option Value)} {st : List Value} {y : MethodName} {b : ByteArray} {n lv idx : Nat} {rt : FieldType} {post' : Int → St → Prop}
theorem jl_callP0 (hC : CL Y) (hw : CWL idx y b n (some rt) lv 0) (hy : y.cls = R_P) (hd : decode code pc = .ok (.invokevirtual idx, 3)) (hM : Ct PW okP y b n (some rt) lv [] S post') (k : ∀ (z : Int) (S' : St), post' z S' → okP S' → JL Y S' M (pc + 3) L (vI z :: st)) (hst : (st.map fun v => v.category).sum ≤ 8 := by exact Nat.le_of_ble_eq_true rfl) : JL Y S M pc L (.ref ((lZP Y).2.1 0) :: st) :=
  jl_callP (xs := []) hC hw hy hd hM hst k
theorem jl_callP1 {x1 : Int} (hC : CL Y) (hw : CWL idx y b n (some rt) lv 1) (hy : y.cls = R_P) (hd : decode code pc = .ok (.invokevirtual idx, 3)) (hM : Ct PW okP y b n (some rt) lv [x1] S post') (k : ∀ (z : Int) (S' : St), post' z S' → okP S' → JL Y S' M (pc + 3) L (vI z :: st)) (hst : (st.map fun v => v.category).sum ≤ 8 := by exact Nat.le_of_ble_eq_true rfl) : JL Y S M pc L (vI x1 :: .ref ((lZP Y).2.1 0) :: st) :=
  jl_callP (xs := [x1]) hC hw hy hd hM hst k
theorem jl_callP2 {x1 x2 : Int} (hC : CL Y) (hw : CWL idx y b n (some rt) lv 2) (hy : y.cls = R_P) (hd : decode code pc = .ok (.invokevirtual idx, 3)) (hM : Ct PW okP y b n (some rt) lv [x1, x2] S post') (k : ∀ (z : Int) (S' : St), post' z S' → okP S' → JL Y S' M (pc + 3) L (vI z :: st)) (hst : (st.map fun v => v.category).sum ≤ 8 := by exact Nat.le_of_ble_eq_true rfl) : JL Y S M pc L (vI x2 :: vI x1 :: .ref ((lZP Y).2.1 0) :: st) :=
  jl_callP (xs := [x1, x2]) hC hw hy hd hM hst k
theorem jl_callP3 {x1 x2 x3 : Int} (hC : CL Y) (hw : CWL idx y b n (some rt) lv 3) (hy : y.cls = R_P) (hd : decode code pc = .ok (.invokevirtual idx, 3)) (hM : Ct PW okP y b n (some rt) lv [x1, x2, x3] S post') (k : ∀ (z : Int) (S' : St), post' z S' → okP S' → JL Y S' M (pc + 3) L (vI z :: st)) (hst : (st.map fun v => v.category).sum ≤ 8 := by exact Nat.le_of_ble_eq_true rfl) : JL Y S M pc L (vI x3 :: vI x2 :: vI x1 :: .ref ((lZP Y).2.1 0) :: st) :=
  jl_callP (xs := [x1, x2, x3]) hC hw hy hd hM hst k
theorem jl_callM0 (hC : CL Y) (hw : CWL idx y b n (some rt) lv 0) (hy : y.cls = R_M) (hd : decode code pc = .ok (.invokevirtual idx, 3)) (hM : Ct MW okM y b n (some rt) lv [] M post') (k : ∀ (z : Int) (S' : St), post' z S' → okM S' → JL Y S S' (pc + 3) L (vI z :: st)) (hst : (st.map fun v => v.category).sum ≤ 8 := by exact Nat.le_of_ble_eq_true rfl) : JL Y S M pc L (.ref ((lZM Y).2.1 0) :: st) :=
  jl_callM (xs := []) hC hw hy hd hM hst k
theorem jl_callM1 {x1 : Int} (hC : CL Y) (hw : CWL idx y b n (some rt) lv 1) (hy : y.cls = R_M) (hd : decode code pc = .ok (.invokevirtual idx, 3)) (hM : Ct MW okM y b n (some rt) lv [x1] M post') (k : ∀ (z : Int) (S' : St), post' z S' → okM S' → JL Y S S' (pc + 3) L (vI z :: st)) (hst : (st.map fun v => v.category).sum ≤ 8 := by exact Nat.le_of_ble_eq_true rfl) : JL Y S M pc L (vI x1 :: .ref ((lZM Y).2.1 0) :: st) :=
  jl_callM (xs := [x1]) hC hw hy hd hM hst k
theorem jl_callM2 {x1 x2 : Int} (hC : CL Y) (hw : CWL idx y b n (some rt) lv 2) (hy : y.cls = R_M) (hd : decode code pc = .ok (.invokevirtual idx, 3)) (hM : Ct MW okM y b n (some rt) lv [x1, x2] M post') (k : ∀ (z : Int) (S' : St), post' z S' → okM S' → JL Y S S' (pc + 3) L (vI z :: st)) (hst : (st.map fun v => v.category).sum ≤ 8 := by exact Nat.le_of_ble_eq_true rfl) : JL Y S M pc L (vI x2 :: vI x1 :: .ref ((lZM Y).2.1 0) :: st) :=
  jl_callM (xs := [x1, x2]) hC hw hy hd hM hst k
theorem jl_callM3 {x1 x2 x3 : Int} (hC : CL Y) (hw : CWL idx y b n (some rt) lv 3) (hy : y.cls = R_M) (hd : decode code pc = .ok (.invokevirtual idx, 3)) (hM : Ct MW okM y b n (some rt) lv [x1, x2, x3] M post') (k : ∀ (z : Int) (S' : St), post' z S' → okM S' → JL Y S S' (pc + 3) L (vI z :: st)) (hst : (st.map fun v => v.category).sum ≤ 8 := by exact Nat.le_of_ble_eq_true rfl) : JL Y S M pc L (vI x3 :: vI x2 :: vI x1 :: .ref ((lZM Y).2.1 0) :: st) :=
  jl_callM (xs := [x1, x2, x3]) hC hw hy hd hM hst k
/-- the locals at the loop's head -/
def Lc (Y : Lx) (i : Int) : List (Option Value) := [some (.ref (lb Y)), some (.ref ((lZP Y).2.1 0)), some (.ref ((lZM Y).2.1 0)), some (vI i)]
theorem case_0 (hC : CL Y) (hR : Rel S M) {i : Int} (i0 : 2 ≤ i) (i1 : i + 4 ≤ lLen Y) (hk : ∀ S' M', Rel S' M' → JL Y S' M' 493 (Lc Y i) []) : JL Y S M 128 (Lc Y i) [] := by
  refine JL.ok (fun o1 o2 => ?_)
  unfold Lc
  refine jl_aload_n (pc := 128) hC d_law_128 rfl ?_
  refine jl_aload_n (pc := 129) hC d_law_129 rfl ?_
  refine jl_iload_n (pc := 130) hC d_law_130 rfl ?_
  refine jl_iconst (pc := 131) hC d_law_131 ?_
  refine jl_iadd (pc := 132) hC d_law_132 ?_
  refine jl_sld (pc := 133) hC d_law_133 ?_
  refine jl_aload_n (pc := 134) hC d_law_134 rfl ?_
  refine jl_iload_n (pc := 135) hC d_law_135 rfl ?_
  refine jl_iconst (pc := 136) hC d_law_136 ?_
  refine jl_iadd (pc := 137) hC d_law_137 ?_
  refine jl_sld (pc := 138) hC d_law_138 ?_
  refine jl_callP2 (pc := 139) hC ⟨gl_L_21, gm_P_offer, gw_ini_P, by decide +kernel, by decide, by decide⟩ rfl d_law_139 (c_P_offer S o1 hR.wf (sv Y (i + 1)) (sv Y (i + 2)) (sv_lo Y _) (sv_hi Y _) (sv_lo Y _) (sv_hi Y _)) (fun z S1 p oP => ?_)
  refine jl_aload_n (pc := 142) hC d_law_142 rfl ?_
  refine jl_aload_n (pc := 143) hC d_law_143 rfl ?_
  refine jl_iload_n (pc := 144) hC d_law_144 rfl ?_
  refine jl_iconst (pc := 145) hC d_law_145 ?_
  refine jl_iadd (pc := 146) hC d_law_146 ?_
  refine jl_sld (pc := 147) hC d_law_147 ?_
  refine jl_aload_n (pc := 148) hC d_law_148 rfl ?_
  refine jl_iload_n (pc := 149) hC d_law_149 rfl ?_
  refine jl_iconst (pc := 150) hC d_law_150 ?_
  refine jl_iadd (pc := 151) hC d_law_151 ?_
  refine jl_sld (pc := 152) hC d_law_152 ?_
  refine jl_callM2 (pc := 153) hC ⟨gl_L_25, gm_M_offer, gw_ini_M, by decide +kernel, by decide, by decide⟩ rfl d_law_153 (c_M_offer M o2 (hR.wfM o1) (sv Y (i + 1)) (sv Y (i + 2)) (sv_lo Y _) (sv_hi Y _) (sv_lo Y _) (sv_hi Y _)) (fun z2 M1 q oM => ?_)
  obtain ⟨e, hR2⟩ := op_offer hR o1 p q
  exact jl_eq (pc := 156) (tgt := 493) hC d_law_156 (by decide) e (hk _ _ hR2)
theorem case_1 (hC : CL Y) (hR : Rel S M) {i : Int} (i0 : 2 ≤ i) (i1 : i + 4 ≤ lLen Y) (hk : ∀ S' M', Rel S' M' → JL Y S' M' 493 (Lc Y i) []) : JL Y S M 161 (Lc Y i) [] := by
  refine JL.ok (fun o1 o2 => ?_)
  unfold Lc
  refine jl_aload_n (pc := 161) hC d_law_161 rfl ?_
  refine jl_aload_n (pc := 162) hC d_law_162 rfl ?_
  refine jl_iload_n (pc := 163) hC d_law_163 rfl ?_
  refine jl_iconst (pc := 164) hC d_law_164 ?_
  refine jl_iadd (pc := 165) hC d_law_165 ?_
  refine jl_sld (pc := 166) hC d_law_166 ?_
  refine jl_aload_n (pc := 167) hC d_law_167 rfl ?_
  refine jl_iload_n (pc := 168) hC d_law_168 rfl ?_
  refine jl_iconst (pc := 169) hC d_law_169 ?_
  refine jl_iadd (pc := 170) hC d_law_170 ?_
  refine jl_sld (pc := 171) hC d_law_171 ?_
  refine jl_callP2 (pc := 172) hC ⟨gl_L_26, gm_P_probe, gw_ini_P, by decide +kernel, by decide, by decide⟩ rfl d_law_172 (c_P_probe S o1 hR.wf (sv Y (i + 1)) (sv Y (i + 2)) (sv_lo Y _) (sv_hi Y _) (sv_lo Y _) (sv_hi Y _)) (fun z S1 p oP => ?_)
  refine jl_aload_n (pc := 175) hC d_law_175 rfl ?_
  refine jl_aload_n (pc := 176) hC d_law_176 rfl ?_
  refine jl_iload_n (pc := 177) hC d_law_177 rfl ?_
  refine jl_iconst (pc := 178) hC d_law_178 ?_
  refine jl_iadd (pc := 179) hC d_law_179 ?_
  refine jl_sld (pc := 180) hC d_law_180 ?_
  refine jl_aload_n (pc := 181) hC d_law_181 rfl ?_
  refine jl_iload_n (pc := 182) hC d_law_182 rfl ?_
  refine jl_iconst (pc := 183) hC d_law_183 ?_
  refine jl_iadd (pc := 184) hC d_law_184 ?_
  refine jl_sld (pc := 185) hC d_law_185 ?_
  refine jl_callM2 (pc := 186) hC ⟨gl_L_29, gm_M_probe, gw_ini_M, by decide +kernel, by decide, by decide⟩ rfl d_law_186 (c_M_probe M o2 (hR.wfM o1) (sv Y (i + 1)) (sv Y (i + 2)) (sv_lo Y _) (sv_hi Y _) (sv_lo Y _) (sv_hi Y _)) (fun z2 M1 q oM => ?_)
  obtain ⟨e, hR2⟩ := op_probe hR o1 p q
  exact jl_eq (pc := 189) (tgt := 493) hC d_law_189 (by decide) e (hk _ _ hR2)
theorem case_2 (hC : CL Y) (hR : Rel S M) {i : Int} (i0 : 2 ≤ i) (i1 : i + 4 ≤ lLen Y) (hk : ∀ S' M', Rel S' M' → JL Y S' M' 493 (Lc Y i) []) : JL Y S M 194 (Lc Y i) [] := by
  refine JL.ok (fun o1 o2 => ?_)
  unfold Lc
  refine jl_aload_n (pc := 194) hC d_law_194 rfl ?_
  refine jl_aload_n (pc := 195) hC d_law_195 rfl ?_
  refine jl_iload_n (pc := 196) hC d_law_196 rfl ?_
  refine jl_iconst (pc := 197) hC d_law_197 ?_
  refine jl_iadd (pc := 198) hC d_law_198 ?_
  refine jl_sld (pc := 199) hC d_law_199 ?_
  refine jl_aload_n (pc := 200) hC d_law_200 rfl ?_
  refine jl_iload_n (pc := 201) hC d_law_201 rfl ?_
  refine jl_iconst (pc := 202) hC d_law_202 ?_
  refine jl_iadd (pc := 203) hC d_law_203 ?_
  refine jl_sld (pc := 204) hC d_law_204 ?_
  refine jl_aload_n (pc := 205) hC d_law_205 rfl ?_
  refine jl_iload_n (pc := 206) hC d_law_206 rfl ?_
  refine jl_iconst (pc := 207) hC d_law_207 ?_
  refine jl_iadd (pc := 208) hC d_law_208 ?_
  refine jl_sld (pc := 209) hC d_law_209 ?_
  refine jl_callP3 (pc := 210) hC ⟨gl_L_30, gm_P_move, gw_ini_P, by decide +kernel, by decide, by decide⟩ rfl d_law_210 (c_P_move S o1 hR.wf (sv Y (i + 1)) (sv Y (i + 2)) (sv Y (i + 3)) (sv_lo Y _) (sv_hi Y _) (sv_lo Y _) (sv_hi Y _) (sv_lo Y _) (sv_hi Y _)) (fun z S1 p oP => ?_)
  refine jl_aload_n (pc := 213) hC d_law_213 rfl ?_
  refine jl_aload_n (pc := 214) hC d_law_214 rfl ?_
  refine jl_iload_n (pc := 215) hC d_law_215 rfl ?_
  refine jl_iconst (pc := 216) hC d_law_216 ?_
  refine jl_iadd (pc := 217) hC d_law_217 ?_
  refine jl_sld (pc := 218) hC d_law_218 ?_
  refine jl_aload_n (pc := 219) hC d_law_219 rfl ?_
  refine jl_iload_n (pc := 220) hC d_law_220 rfl ?_
  refine jl_iconst (pc := 221) hC d_law_221 ?_
  refine jl_iadd (pc := 222) hC d_law_222 ?_
  refine jl_sld (pc := 223) hC d_law_223 ?_
  refine jl_aload_n (pc := 224) hC d_law_224 rfl ?_
  refine jl_iload_n (pc := 225) hC d_law_225 rfl ?_
  refine jl_iconst (pc := 226) hC d_law_226 ?_
  refine jl_iadd (pc := 227) hC d_law_227 ?_
  refine jl_sld (pc := 228) hC d_law_228 ?_
  refine jl_callM3 (pc := 229) hC ⟨gl_L_34, gm_M_move, gw_ini_M, by decide +kernel, by decide, by decide⟩ rfl d_law_229 (c_M_move M o2 (hR.wfM o1) (sv Y (i + 1)) (sv Y (i + 2)) (sv Y (i + 3)) (sv_lo Y _) (sv_hi Y _) (sv_lo Y _) (sv_hi Y _) (sv_lo Y _) (sv_hi Y _)) (fun z2 M1 q oM => ?_)
  obtain ⟨e, hR2⟩ := op_move hR o1 p q
  exact jl_eq (pc := 232) (tgt := 493) hC d_law_232 (by decide) e (hk _ _ hR2)
theorem case_3 (hC : CL Y) (hR : Rel S M) {i : Int} (i0 : 2 ≤ i) (i1 : i + 4 ≤ lLen Y) (hk : ∀ S' M', Rel S' M' → JL Y S' M' 493 (Lc Y i) []) : JL Y S M 237 (Lc Y i) [] := by
  refine JL.ok (fun o1 o2 => ?_)
  unfold Lc
  refine jl_aload_n (pc := 237) hC d_law_237 rfl ?_
  refine jl_aload_n (pc := 238) hC d_law_238 rfl ?_
  refine jl_iload_n (pc := 239) hC d_law_239 rfl ?_
  refine jl_iconst (pc := 240) hC d_law_240 ?_
  refine jl_iadd (pc := 241) hC d_law_241 ?_
  refine jl_sld (pc := 242) hC d_law_242 ?_
  refine jl_callP1 (pc := 243) hC ⟨gl_L_35, gm_P_withdraw, gw_ini_P, by decide +kernel, by decide, by decide⟩ rfl d_law_243 (c_P_withdraw S o1 (sv Y (i + 1)) (sv_lo Y _) (sv_hi Y _)) (fun z S1 p oP => ?_)
  refine jl_aload_n (pc := 246) hC d_law_246 rfl ?_
  refine jl_aload_n (pc := 247) hC d_law_247 rfl ?_
  refine jl_iload_n (pc := 248) hC d_law_248 rfl ?_
  refine jl_iconst (pc := 249) hC d_law_249 ?_
  refine jl_iadd (pc := 250) hC d_law_250 ?_
  refine jl_sld (pc := 251) hC d_law_251 ?_
  refine jl_callM1 (pc := 252) hC ⟨gl_L_39, gm_M_withdraw, gw_ini_M, by decide +kernel, by decide, by decide⟩ rfl d_law_252 (c_M_withdraw M o2 (sv Y (i + 1)) (sv_lo Y _) (sv_hi Y _)) (fun z2 M1 q oM => ?_)
  obtain ⟨e, hR2⟩ := op_withdraw hR o1 p q
  exact jl_eq (pc := 255) (tgt := 493) hC d_law_255 (by decide) e (hk _ _ hR2)
theorem case_4 (hC : CL Y) (hR : Rel S M) {i : Int} (i0 : 2 ≤ i) (i1 : i + 4 ≤ lLen Y) (hk : ∀ S' M', Rel S' M' → JL Y S' M' 493 (Lc Y i) []) : JL Y S M 260 (Lc Y i) [] := by
  refine JL.ok (fun o1 o2 => ?_)
  unfold Lc
  refine jl_aload_n (pc := 260) hC d_law_260 rfl ?_
  refine jl_aload_n (pc := 261) hC d_law_261 rfl ?_
  refine jl_iload_n (pc := 262) hC d_law_262 rfl ?_
  refine jl_iconst (pc := 263) hC d_law_263 ?_
  refine jl_iadd (pc := 264) hC d_law_264 ?_
  refine jl_sld (pc := 265) hC d_law_265 ?_
  refine jl_aload_n (pc := 266) hC d_law_266 rfl ?_
  refine jl_iload_n (pc := 267) hC d_law_267 rfl ?_
  refine jl_iconst (pc := 268) hC d_law_268 ?_
  refine jl_iadd (pc := 269) hC d_law_269 ?_
  refine jl_sld (pc := 270) hC d_law_270 ?_
  refine jl_callP2 (pc := 271) hC ⟨gl_L_40, gm_P_block, gw_ini_P, by decide +kernel, by decide, by decide⟩ rfl d_law_271 (c_P_block S o1 hR.wf (sv Y (i + 1)) (sv Y (i + 2)) (sv_lo Y _) (sv_hi Y _) (sv_lo Y _) (sv_hi Y _)) (fun z S1 p oP => ?_)
  refine jl_aload_n (pc := 274) hC d_law_274 rfl ?_
  refine jl_aload_n (pc := 275) hC d_law_275 rfl ?_
  refine jl_iload_n (pc := 276) hC d_law_276 rfl ?_
  refine jl_iconst (pc := 277) hC d_law_277 ?_
  refine jl_iadd (pc := 278) hC d_law_278 ?_
  refine jl_sld (pc := 279) hC d_law_279 ?_
  refine jl_aload_n (pc := 280) hC d_law_280 rfl ?_
  refine jl_iload_n (pc := 281) hC d_law_281 rfl ?_
  refine jl_iconst (pc := 282) hC d_law_282 ?_
  refine jl_iadd (pc := 283) hC d_law_283 ?_
  refine jl_sld (pc := 284) hC d_law_284 ?_
  refine jl_callM2 (pc := 285) hC ⟨gl_L_43, gm_M_block, gw_ini_M, by decide +kernel, by decide, by decide⟩ rfl d_law_285 (c_M_block M o2 (hR.wfM o1) (sv Y (i + 1)) (sv Y (i + 2)) (sv_lo Y _) (sv_hi Y _) (sv_lo Y _) (sv_hi Y _)) (fun z2 M1 q oM => ?_)
  obtain ⟨e, hR2⟩ := op_block hR o1 p q
  exact jl_eq (pc := 288) (tgt := 493) hC d_law_288 (by decide) e (hk _ _ hR2)
theorem case_5 (hC : CL Y) (hR : Rel S M) {i : Int} (i0 : 2 ≤ i) (i1 : i + 4 ≤ lLen Y) (hk : ∀ S' M', Rel S' M' → JL Y S' M' 493 (Lc Y i) []) : JL Y S M 293 (Lc Y i) [] := by
  refine JL.ok (fun o1 o2 => ?_)
  unfold Lc
  refine jl_aload_n (pc := 293) hC d_law_293 rfl ?_
  refine jl_aload_n (pc := 294) hC d_law_294 rfl ?_
  refine jl_iload_n (pc := 295) hC d_law_295 rfl ?_
  refine jl_iconst (pc := 296) hC d_law_296 ?_
  refine jl_iadd (pc := 297) hC d_law_297 ?_
  refine jl_sld (pc := 298) hC d_law_298 ?_
  refine jl_callP1 (pc := 299) hC ⟨gl_L_44, gm_P_unblock, gw_ini_P, by decide +kernel, by decide, by decide⟩ rfl d_law_299 (c_P_unblock S o1 (sv Y (i + 1)) (sv_lo Y _) (sv_hi Y _)) (fun z S1 p oP => ?_)
  refine jl_aload_n (pc := 302) hC d_law_302 rfl ?_
  refine jl_aload_n (pc := 303) hC d_law_303 rfl ?_
  refine jl_iload_n (pc := 304) hC d_law_304 rfl ?_
  refine jl_iconst (pc := 305) hC d_law_305 ?_
  refine jl_iadd (pc := 306) hC d_law_306 ?_
  refine jl_sld (pc := 307) hC d_law_307 ?_
  refine jl_callM1 (pc := 308) hC ⟨gl_L_47, gm_M_unblock, gw_ini_M, by decide +kernel, by decide, by decide⟩ rfl d_law_308 (c_M_unblock M o2 (sv Y (i + 1)) (sv_lo Y _) (sv_hi Y _)) (fun z2 M1 q oM => ?_)
  obtain ⟨e, hR2⟩ := op_unblock hR p q
  exact jl_eq (pc := 311) (tgt := 493) hC d_law_311 (by decide) e (hk _ _ hR2)
theorem case_6 (hC : CL Y) (hR : Rel S M) {i : Int} (i0 : 2 ≤ i) (i1 : i + 4 ≤ lLen Y) (hk : ∀ S' M', Rel S' M' → JL Y S' M' 493 (Lc Y i) []) : JL Y S M 316 (Lc Y i) [] := by
  refine JL.ok (fun o1 o2 => ?_)
  unfold Lc
  refine jl_aload_n (pc := 316) hC d_law_316 rfl ?_
  refine jl_callP0 (pc := 317) hC ⟨gl_L_48, gm_P_jobs, gw_ini_P, by decide +kernel, by decide, by decide⟩ rfl d_law_317 (c_P_jobs S o1) (fun z S1 p oP => ?_)
  refine jl_aload_n (pc := 320) hC d_law_320 rfl ?_
  refine jl_callM0 (pc := 321) hC ⟨gl_L_52, gm_M_jobs, gw_ini_M, by decide +kernel, by decide, by decide⟩ rfl d_law_321 (c_M_jobs M o2) (fun z2 M1 q oM => ?_)
  obtain ⟨e, hR2⟩ := op_jobs hR o1 p q
  exact jl_eq (pc := 324) (tgt := 493) hC d_law_324 (by decide) e (hk _ _ hR2)
theorem case_7 (hC : CL Y) (hR : Rel S M) {i : Int} (i0 : 2 ≤ i) (i1 : i + 4 ≤ lLen Y) (hk : ∀ S' M', Rel S' M' → JL Y S' M' 493 (Lc Y i) []) : JL Y S M 329 (Lc Y i) [] := by
  refine JL.ok (fun o1 o2 => ?_)
  unfold Lc
  refine jl_aload_n (pc := 329) hC d_law_329 rfl ?_
  refine jl_aload_n (pc := 330) hC d_law_330 rfl ?_
  refine jl_iload_n (pc := 331) hC d_law_331 rfl ?_
  refine jl_iconst (pc := 332) hC d_law_332 ?_
  refine jl_iadd (pc := 333) hC d_law_333 ?_
  refine jl_sld (pc := 334) hC d_law_334 ?_
  refine jl_callP1 (pc := 335) hC ⟨gl_L_53, gm_P_release, gw_ini_P, by decide +kernel, by decide, by decide⟩ rfl d_law_335 (c_P_release S o1 (sv Y (i + 1)) (sv_lo Y _) (sv_hi Y _)) (fun z S1 p oP => ?_)
  refine jl_aload_n (pc := 338) hC d_law_338 rfl ?_
  refine jl_aload_n (pc := 339) hC d_law_339 rfl ?_
  refine jl_iload_n (pc := 340) hC d_law_340 rfl ?_
  refine jl_iconst (pc := 341) hC d_law_341 ?_
  refine jl_iadd (pc := 342) hC d_law_342 ?_
  refine jl_sld (pc := 343) hC d_law_343 ?_
  refine jl_callM1 (pc := 344) hC ⟨gl_L_57, gm_M_release, gw_ini_M, by decide +kernel, by decide, by decide⟩ rfl d_law_344 (c_M_release M o2 (sv Y (i + 1)) (sv_lo Y _) (sv_hi Y _)) (fun z2 M1 q oM => ?_)
  obtain ⟨e, hR2⟩ := op_release hR o1 p q
  exact jl_eq (pc := 347) (tgt := 493) hC d_law_347 (by decide) e (hk _ _ hR2)
theorem case_8 (hC : CL Y) (hR : Rel S M) {i : Int} (i0 : 2 ≤ i) (i1 : i + 4 ≤ lLen Y) (hk : ∀ S' M', Rel S' M' → JL Y S' M' 493 (Lc Y i) []) : JL Y S M 352 (Lc Y i) [] := by
  refine JL.ok (fun o1 o2 => ?_)
  unfold Lc
  refine jl_aload_n (pc := 352) hC d_law_352 rfl ?_
  refine jl_aload_n (pc := 353) hC d_law_353 rfl ?_
  refine jl_iload_n (pc := 354) hC d_law_354 rfl ?_
  refine jl_iconst (pc := 355) hC d_law_355 ?_
  refine jl_iadd (pc := 356) hC d_law_356 ?_
  refine jl_sld (pc := 357) hC d_law_357 ?_
  refine jl_callP1 (pc := 358) hC ⟨gl_L_58, gm_P_deadline, gw_ini_P, by decide +kernel, by decide, by decide⟩ rfl d_law_358 (c_P_deadline S o1 (sv Y (i + 1)) (sv_lo Y _) (sv_hi Y _)) (fun z S1 p oP => ?_)
  refine jl_aload_n (pc := 361) hC d_law_361 rfl ?_
  refine jl_aload_n (pc := 362) hC d_law_362 rfl ?_
  refine jl_iload_n (pc := 363) hC d_law_363 rfl ?_
  refine jl_iconst (pc := 364) hC d_law_364 ?_
  refine jl_iadd (pc := 365) hC d_law_365 ?_
  refine jl_sld (pc := 366) hC d_law_366 ?_
  refine jl_callM1 (pc := 367) hC ⟨gl_L_61, gm_M_deadline, gw_ini_M, by decide +kernel, by decide, by decide⟩ rfl d_law_367 (c_M_deadline M o2 (sv Y (i + 1)) (sv_lo Y _) (sv_hi Y _)) (fun z2 M1 q oM => ?_)
  obtain ⟨e, hR2⟩ := op_deadline hR o1 p q
  exact jl_eq (pc := 370) (tgt := 493) hC d_law_370 (by decide) e (hk _ _ hR2)
theorem case_9 (hC : CL Y) (hR : Rel S M) {i : Int} (i0 : 2 ≤ i) (i1 : i + 4 ≤ lLen Y) (hk : ∀ S' M', Rel S' M' → JL Y S' M' 493 (Lc Y i) []) : JL Y S M 375 (Lc Y i) [] := by
  refine JL.ok (fun o1 o2 => ?_)
  unfold Lc
  refine jl_aload_n (pc := 375) hC d_law_375 rfl ?_
  refine jl_callP0 (pc := 376) hC ⟨gl_L_62, gm_P_earliestEnd, gw_ini_P, by decide +kernel, by decide, by decide⟩ rfl d_law_376 (c_P_earliestEnd S o1 hR.wf hR.fb) (fun z S1 p oP => ?_)
  refine jl_aload_n (pc := 379) hC d_law_379 rfl ?_
  refine jl_callM0 (pc := 380) hC ⟨gl_L_65, gm_M_earliestEnd, gw_ini_M, by decide +kernel, by decide, by decide⟩ rfl d_law_380 (c_M_earliestEnd M o2) (fun z2 M1 q oM => ?_)
  obtain ⟨e, hR2⟩ := op_end hR o1 p q
  exact jl_eq (pc := 383) (tgt := 493) hC d_law_383 (by decide) e (hk _ _ hR2)
theorem case_10 (hC : CL Y) (hR : Rel S M) {i : Int} (i0 : 2 ≤ i) (i1 : i + 4 ≤ lLen Y) (hk : ∀ S' M', Rel S' M' → JL Y S' M' 493 (Lc Y i) []) : JL Y S M 388 (Lc Y i) [] := by
  refine JL.ok (fun o1 o2 => ?_)
  unfold Lc
  refine jl_aload_n (pc := 388) hC d_law_388 rfl ?_
  refine jl_callP0 (pc := 389) hC ⟨gl_L_66, gm_P_latestBegin, gw_ini_P, by decide +kernel, by decide, by decide⟩ rfl d_law_389 (c_P_latestBegin S o1 hR.wf hR.fb) (fun z S1 p oP => ?_)
  refine jl_aload_n (pc := 392) hC d_law_392 rfl ?_
  refine jl_callM0 (pc := 393) hC ⟨gl_L_69, gm_M_latestBegin, gw_ini_M, by decide +kernel, by decide, by decide⟩ rfl d_law_393 (c_M_latestBegin M o2) (fun z2 M1 q oM => ?_)
  obtain ⟨e, hR2⟩ := op_begin hR o1 p q
  exact jl_eq (pc := 396) (tgt := 493) hC d_law_396 (by decide) e (hk _ _ hR2)
theorem case_11 (hC : CL Y) (hR : Rel S M) {i : Int} (i0 : 2 ≤ i) (i1 : i + 4 ≤ lLen Y) (hk : ∀ S' M', Rel S' M' → JL Y S' M' 493 (Lc Y i) []) : JL Y S M 401 (Lc Y i) [] := by
  refine JL.ok (fun o1 o2 => ?_)
  unfold Lc
  refine jl_aload_n (pc := 401) hC d_law_401 rfl ?_
  refine jl_aload_n (pc := 402) hC d_law_402 rfl ?_
  refine jl_iload_n (pc := 403) hC d_law_403 rfl ?_
  refine jl_iconst (pc := 404) hC d_law_404 ?_
  refine jl_iadd (pc := 405) hC d_law_405 ?_
  refine jl_sld (pc := 406) hC d_law_406 ?_
  refine jl_callP1 (pc := 407) hC ⟨gl_L_70, gm_P_earliestStart, gw_ini_P, by decide +kernel, by decide, by decide⟩ rfl d_law_407 (c_P_earliestStart S o1 hR.wf hR.fb (sv Y (i + 1)) (sv_lo Y _) (sv_hi Y _)) (fun z S1 p oP => ?_)
  refine jl_aload_n (pc := 410) hC d_law_410 rfl ?_
  refine jl_aload_n (pc := 411) hC d_law_411 rfl ?_
  refine jl_iload_n (pc := 412) hC d_law_412 rfl ?_
  refine jl_iconst (pc := 413) hC d_law_413 ?_
  refine jl_iadd (pc := 414) hC d_law_414 ?_
  refine jl_sld (pc := 415) hC d_law_415 ?_
  refine jl_callM1 (pc := 416) hC ⟨gl_L_73, gm_M_earliestStart, gw_ini_M, by decide +kernel, by decide, by decide⟩ rfl d_law_416 (c_M_earliestStart M o2 (hR.wfM o1) (sv Y (i + 1)) (sv_lo Y _) (sv_hi Y _)) (fun z2 M1 q oM => ?_)
  obtain ⟨e, hR2⟩ := op_estart hR o1 p q
  exact jl_eq (pc := 419) (tgt := 493) hC d_law_419 (by decide) e (hk _ _ hR2)
theorem case_12 (hC : CL Y) (hR : Rel S M) {i : Int} (i0 : 2 ≤ i) (i1 : i + 4 ≤ lLen Y) (hk : ∀ S' M', Rel S' M' → JL Y S' M' 493 (Lc Y i) []) : JL Y S M 424 (Lc Y i) [] := by
  refine JL.ok (fun o1 o2 => ?_)
  unfold Lc
  refine jl_aload_n (pc := 424) hC d_law_424 rfl ?_
  refine jl_aload_n (pc := 425) hC d_law_425 rfl ?_
  refine jl_iload_n (pc := 426) hC d_law_426 rfl ?_
  refine jl_iconst (pc := 427) hC d_law_427 ?_
  refine jl_iadd (pc := 428) hC d_law_428 ?_
  refine jl_sld (pc := 429) hC d_law_429 ?_
  refine jl_callP1 (pc := 430) hC ⟨gl_L_74, gm_P_latestStart, gw_ini_P, by decide +kernel, by decide, by decide⟩ rfl d_law_430 (c_P_latestStart S o1 hR.wf hR.fb (sv Y (i + 1)) (sv_lo Y _) (sv_hi Y _)) (fun z S1 p oP => ?_)
  refine jl_aload_n (pc := 433) hC d_law_433 rfl ?_
  refine jl_aload_n (pc := 434) hC d_law_434 rfl ?_
  refine jl_iload_n (pc := 435) hC d_law_435 rfl ?_
  refine jl_iconst (pc := 436) hC d_law_436 ?_
  refine jl_iadd (pc := 437) hC d_law_437 ?_
  refine jl_sld (pc := 438) hC d_law_438 ?_
  refine jl_callM1 (pc := 439) hC ⟨gl_L_77, gm_M_latestStart, gw_ini_M, by decide +kernel, by decide, by decide⟩ rfl d_law_439 (c_M_latestStart M o2 (hR.wfM o1) (sv Y (i + 1)) (sv_lo Y _) (sv_hi Y _)) (fun z2 M1 q oM => ?_)
  obtain ⟨e, hR2⟩ := op_lstart hR o1 p q
  exact jl_eq (pc := 442) (tgt := 493) hC d_law_442 (by decide) e (hk _ _ hR2)
theorem case_13 (hC : CL Y) (hR : Rel S M) {i : Int} (i0 : 2 ≤ i) (i1 : i + 4 ≤ lLen Y) (hk : ∀ S' M', Rel S' M' → JL Y S' M' 493 (Lc Y i) []) : JL Y S M 447 (Lc Y i) [] := by
  refine JL.ok (fun o1 o2 => ?_)
  unfold Lc
  refine jl_aload_n (pc := 447) hC d_law_447 rfl ?_
  refine jl_aload_n (pc := 448) hC d_law_448 rfl ?_
  refine jl_iload_n (pc := 449) hC d_law_449 rfl ?_
  refine jl_iconst (pc := 450) hC d_law_450 ?_
  refine jl_iadd (pc := 451) hC d_law_451 ?_
  refine jl_sld (pc := 452) hC d_law_452 ?_
  refine jl_callP1 (pc := 453) hC ⟨gl_L_78, gm_P_open, gw_ini_P, by decide +kernel, by decide, by decide⟩ rfl d_law_453 (c_P_open S o1 hR.wf (sv Y (i + 1)) (sv_lo Y _) (sv_hi Y _)) (fun z S1 p oP => ?_)
  refine jl_aload_n (pc := 456) hC d_law_456 rfl ?_
  refine jl_aload_n (pc := 457) hC d_law_457 rfl ?_
  refine jl_iload_n (pc := 458) hC d_law_458 rfl ?_
  refine jl_iconst (pc := 459) hC d_law_459 ?_
  refine jl_iadd (pc := 460) hC d_law_460 ?_
  refine jl_sld (pc := 461) hC d_law_461 ?_
  refine jl_callM1 (pc := 462) hC ⟨gl_L_81, gm_M_open, gw_ini_M, by decide +kernel, by decide, by decide⟩ rfl d_law_462 (c_M_open M o2 (hR.wfM o1) (sv Y (i + 1)) (sv_lo Y _) (sv_hi Y _)) (fun z2 M1 q oM => ?_)
  obtain ⟨e, hR2⟩ := op_open hR o1 p q
  exact jl_eq (pc := 465) (tgt := 493) hC d_law_465 (by decide) e (hk _ _ hR2)
theorem case_14 (hC : CL Y) (hR : Rel S M) {i : Int} (i0 : 2 ≤ i) (i1 : i + 4 ≤ lLen Y) (hk : ∀ S' M', Rel S' M' → JL Y S' M' 493 (Lc Y i) []) : JL Y S M 470 (Lc Y i) [] := by
  refine JL.ok (fun o1 o2 => ?_)
  unfold Lc
  refine jl_aload_n (pc := 470) hC d_law_470 rfl ?_
  refine jl_aload_n (pc := 471) hC d_law_471 rfl ?_
  refine jl_iload_n (pc := 472) hC d_law_472 rfl ?_
  refine jl_iconst (pc := 473) hC d_law_473 ?_
  refine jl_iadd (pc := 474) hC d_law_474 ?_
  refine jl_sld (pc := 475) hC d_law_475 ?_
  refine jl_callP1 (pc := 476) hC ⟨gl_L_82, gm_P_plannedStart, gw_ini_P, by decide +kernel, by decide, by decide⟩ rfl d_law_476 (c_P_plannedStart S o1 hR.wf hR.fb hR.pk (sv Y (i + 1)) (sv_lo Y _) (sv_hi Y _)) (fun z S1 p oP => ?_)
  refine jl_aload_n (pc := 479) hC d_law_479 rfl ?_
  refine jl_aload_n (pc := 480) hC d_law_480 rfl ?_
  refine jl_iload_n (pc := 481) hC d_law_481 rfl ?_
  refine jl_iconst (pc := 482) hC d_law_482 ?_
  refine jl_iadd (pc := 483) hC d_law_483 ?_
  refine jl_sld (pc := 484) hC d_law_484 ?_
  refine jl_callM1 (pc := 485) hC ⟨gl_L_85, gm_M_plannedStart, gw_ini_M, by decide +kernel, by decide, by decide⟩ rfl d_law_485 (c_M_plannedStart M o2 (hR.wfM o1) (hR.fbm o1) (sv Y (i + 1)) (sv_lo Y _) (sv_hi Y _)) (fun z2 M1 q oM => ?_)
  obtain ⟨e, hR2⟩ := op_plan hR o1 oP p q
  exact jl_eq (pc := 488) (tgt := 493) hC d_law_488 (by decide) e (hk _ _ hR2)
end Cases
end
section
-- THE LAW'S LOOP, AND THE LAW FROM ITS ENTRY: printed by gen/wsgen.py
section Loop
variable {Y : Lx} {S M : St}
theorem jl_ret (hC : CL Y) {L : List (Option Value)} (hd : decode code 500 = .ok (.ireturn, 1)) : JL Y S M 500 L [vI 1] := by
  intro o1 o2 H locs ls hP hD hS hl
  refine va_forget (fun q hq => hS.2.2 q hq) ?_
  exact lw_ret hC.x hC.b hC.1.2.2.1 hC.1.2.2.2.2.2.2.2.2.1 hd
theorem jl_switch (hC : CL Y) {L : List (Option Value)} {x : Int} (kd : JL Y S M 493 L [])
    (k0 : JL Y S M 128 L [])
    (k1 : JL Y S M 161 L [])
    (k2 : JL Y S M 194 L [])
    (k3 : JL Y S M 237 L [])
    (k4 : JL Y S M 260 L [])
    (k5 : JL Y S M 293 L [])
    (k6 : JL Y S M 316 L [])
    (k7 : JL Y S M 329 L [])
    (k8 : JL Y S M 352 L [])
    (k9 : JL Y S M 375 L [])
    (k10 : JL Y S M 388 L [])
    (k11 : JL Y S M 401 L [])
    (k12 : JL Y S M 424 L [])
    (k13 : JL Y S M 447 L [])
    (k14 : JL Y S M 470 L [])
    : JL Y S M 49 L [vI x] := by
  intro o1 o2 H locs ls hP hD hS hl
  refine lv_bipush (v := (15 : Int32)) hC.x hC.b d_law_49 (by decide) ?_
  refine lv_iand hC.x hC.b d_law_51 ?_
  obtain ⟨j, hj, e⟩ := pk_andE (Int32.ofInt x) (m := 15) 4 (by decide)
  rw [e]
  rcases (show j = 0 ∨ j = 1 ∨ j = 2 ∨ j = 3 ∨ j = 4 ∨ j = 5 ∨ j = 6 ∨ j = 7 ∨ j = 8 ∨ j = 9 ∨ j = 10 ∨ j = 11 ∨ j = 12 ∨ j = 13 ∨ j = 14 ∨ j = 15 by omega) with rfl | rfl | rfl | rfl | rfl | rfl | rfl | rfl | rfl | rfl | rfl | rfl | rfl | rfl | rfl | rfl
  · exact lv_tableIn (off := 76) (tgt := 128) hC.x hC.b d_law_52 (by decide) (by decide) (by decide) (by decide) (k0 o1 o2 H locs ls hP hD hS hl)
  · exact lv_tableIn (off := 109) (tgt := 161) hC.x hC.b d_law_52 (by decide) (by decide) (by decide) (by decide) (k1 o1 o2 H locs ls hP hD hS hl)
  · exact lv_tableIn (off := 142) (tgt := 194) hC.x hC.b d_law_52 (by decide) (by decide) (by decide) (by decide) (k2 o1 o2 H locs ls hP hD hS hl)
  · exact lv_tableIn (off := 185) (tgt := 237) hC.x hC.b d_law_52 (by decide) (by decide) (by decide) (by decide) (k3 o1 o2 H locs ls hP hD hS hl)
  · exact lv_tableIn (off := 208) (tgt := 260) hC.x hC.b d_law_52 (by decide) (by decide) (by decide) (by decide) (k4 o1 o2 H locs ls hP hD hS hl)
  · exact lv_tableIn (off := 241) (tgt := 293) hC.x hC.b d_law_52 (by decide) (by decide) (by decide) (by decide) (k5 o1 o2 H locs ls hP hD hS hl)
  · exact lv_tableIn (off := 264) (tgt := 316) hC.x hC.b d_law_52 (by decide) (by decide) (by decide) (by decide) (k6 o1 o2 H locs ls hP hD hS hl)
  · exact lv_tableIn (off := 277) (tgt := 329) hC.x hC.b d_law_52 (by decide) (by decide) (by decide) (by decide) (k7 o1 o2 H locs ls hP hD hS hl)
  · exact lv_tableIn (off := 300) (tgt := 352) hC.x hC.b d_law_52 (by decide) (by decide) (by decide) (by decide) (k8 o1 o2 H locs ls hP hD hS hl)
  · exact lv_tableIn (off := 323) (tgt := 375) hC.x hC.b d_law_52 (by decide) (by decide) (by decide) (by decide) (k9 o1 o2 H locs ls hP hD hS hl)
  · exact lv_tableIn (off := 336) (tgt := 388) hC.x hC.b d_law_52 (by decide) (by decide) (by decide) (by decide) (k10 o1 o2 H locs ls hP hD hS hl)
  · exact lv_tableIn (off := 349) (tgt := 401) hC.x hC.b d_law_52 (by decide) (by decide) (by decide) (by decide) (k11 o1 o2 H locs ls hP hD hS hl)
  · exact lv_tableIn (off := 372) (tgt := 424) hC.x hC.b d_law_52 (by decide) (by decide) (by decide) (by decide) (k12 o1 o2 H locs ls hP hD hS hl)
  · exact lv_tableIn (off := 395) (tgt := 447) hC.x hC.b d_law_52 (by decide) (by decide) (by decide) (by decide) (k13 o1 o2 H locs ls hP hD hS hl)
  · exact lv_tableIn (off := 418) (tgt := 470) hC.x hC.b d_law_52 (by decide) (by decide) (by decide) (by decide) (k14 o1 o2 H locs ls hP hD hS hl)
  · exact lv_tableOut (tgt := 493) hC.x hC.b d_law_52 (by decide) (by decide) (kd o1 o2 H locs ls hP hD hS hl)
theorem law_loop (hC : CL Y) : ∀ (n : Nat) (i : Int) (S M : St), Rel S M → 2 ≤ i → i ≤ 3000 → (lLen Y : Int) - i < n → 1 ≤ n → JL Y S M 38 (Lc Y i) [] := by
  intro n
  induction n with
  | zero => intro i S M hR h1 h2 h3 h4; omega
  | succ n ih =>
    intro i S M hR h1 h2 h3 h4
    have hN := hC.2.1
    unfold Lc
    refine jl_iload_n (pc := 38) hC d_law_38 rfl ?_
    refine jl_aload_n (pc := 39) hC d_law_39 rfl ?_
    refine jl_len (pc := 40) hC d_law_40 ?_
    refine jl_iconst (pc := 41) hC d_law_41 ?_
    refine jl_isub (pc := 42) hC d_law_42 ?_
    refine jl_icmp_gt (pc := 43) (tgt := 499) hC d_law_43 (by decide) (fun q => ?_) (fun q => ?_)
    · refine jl_iconst (pc := 499) hC d_law_499 ?_
      exact jl_ret hC d_law_500
    · have hk : ∀ S' M', Rel S' M' → JL Y S' M' 493 (Lc Y i) [] := by
        intro S' M' hR'
        unfold Lc
        refine jl_iinc3 (pc := 493) hC d_law_493 ?_
        refine jl_goto (pc := 496) (tgt := 38) hC d_law_496 (by decide) ?_
        exact ih (i + 4) S' M' hR' (by omega) (by omega) (by omega) (by omega)
      refine jl_aload_n (pc := 46) hC d_law_46 rfl ?_
      refine jl_iload_n (pc := 47) hC d_law_47 rfl ?_
      refine jl_sld (pc := 48) hC d_law_48 ?_
      exact jl_switch hC (hk S M hR) (case_0 hC hR h1 (by omega) hk) (case_1 hC hR h1 (by omega) hk) (case_2 hC hR h1 (by omega) hk) (case_3 hC hR h1 (by omega) hk) (case_4 hC hR h1 (by omega) hk) (case_5 hC hR h1 (by omega) hk) (case_6 hC hR h1 (by omega) hk) (case_7 hC hR h1 (by omega) hk) (case_8 hC hR h1 (by omega) hk) (case_9 hC hR h1 (by omega) hk) (case_10 hC hR h1 (by omega) hk) (case_11 hC hR h1 (by omega) hk) (case_12 hC hR h1 (by omega) hk) (case_13 hC hR h1 (by omega) hk) (case_14 hC hR h1 (by omega) hk)
end Loop
theorem clamp6_bd (x : Int) : 1 ≤ clamp6 x ∧ clamp6 x ≤ 6 := by
  unfold clamp6
  split
  · omega
  · split <;> omega
theorem S0_a (a b : Int) {c : Nat} (h : c ≠ 0) (i : Int) : S0 a b c i = 0 := by
  unfold S0
  rw [if_neg (fun q => h q.1), if_neg (fun q => h q.1)]
theorem S0_0 (a b : Int) : S0 a b 0 0 = clamp6 a := rfl
theorem S0_1 (a b : Int) : S0 a b 0 1 = clamp6 b := rfl
theorem S0_okP (a b : Int) : okP (S0 a b) := by
  have ha := clamp6_bd a
  have hb := clamp6_bd b
  refine ⟨by rw [S0_0]; exact ha, by rw [S0_1]; exact hb, ⟨Int.le_refl 0, show (0 : Int) ≤ 8 by omega⟩, ⟨Int.le_refl 0, show (0 : Int) ≤ 127 by omega⟩, ⟨Int.le_refl 0, show (0 : Int) ≤ 1 by omega⟩, fun i => by rw [S0_a a b (by decide)]; omega, fun i => by rw [S0_a a b (by decide)]; omega, fun i => by rw [S0_a a b (by decide)]; omega, fun i => by rw [S0_a a b (by decide)]; omega, fun i => by rw [S0_a a b (by decide)]; omega, fun i => by rw [S0_a a b (by decide)]; omega, fun i => by rw [S0_a a b (by decide)]; omega, fun i => by rw [S0_a a b (by decide)]; omega, fun i => by rw [S0_a a b (by decide)]; omega, fun i => by rw [S0_a a b (by decide)]; omega, fun i => by rw [S0_a a b (by decide)]; omega⟩
theorem S0_okM (a b : Int) : okM (S0 a b) := by
  have ha := clamp6_bd a
  have hb := clamp6_bd b
  refine ⟨by rw [S0_0]; exact ha, by rw [S0_1]; exact hb, ⟨Int.le_refl 0, show (0 : Int) ≤ 127 by omega⟩, fun i => by rw [S0_a a b (by decide)]; omega, fun i => by rw [S0_a a b (by decide)]; omega, fun i => by rw [S0_a a b (by decide)]; omega, fun i => by rw [S0_a a b (by decide)]; omega, fun i => by rw [S0_a a b (by decide)]; omega, fun i => by rw [S0_a a b (by decide)]; omega, fun i => by rw [S0_a a b (by decide)]; omega, fun i => by rw [S0_a a b (by decide)]; omega, fun i => by rw [S0_a a b (by decide)]; omega⟩
theorem S0_rel (a b : Int) : Rel (S0 a b) (S0 a b) := by
  have hn : ∀ i, ¬ BS (S0 a b) i := fun i hi => by
    have := hi.2.2
    rw [S0_a a b (by decide)] at this
    omega
  refine ⟨rfl, rfl, fun _ _ _ => rfl, fun i _ _ => S0_a a b (by decide) i, fun i hi => absurd hi (hn i), fun i hi => absurd hi (hn i), fun k _ _ => ⟨rfl, fun _ => ⟨rfl, rfl⟩⟩, ⟨fun _ => 0, fun i hi => absurd hi (hn i), fun i j hi => absurd hi (hn i)⟩, fun q => ?_⟩
  have : S0 a b 0 4 = 0 := rfl
  omega
theorem cellV_bd (L : Nat) (xs : Nat → Int32) (k : Int) : -2147483648 ≤ cellV L xs k ∧ cellV L xs k ≤ 2147483647 := by
  unfold cellV
  split
  · have := Int32.le_toInt (xs k.toNat)
    have := Int32.toInt_lt (xs k.toNat)
    omega
  · omega
theorem gi_P : Cond.instanceMethod y_P_init ∈ gw_tbl := gw_of (lw_in1 6 rfl) rfl
theorem gi_M : Cond.instanceMethod y_M_init ∈ gw_tbl := gw_of (lw_in1 217 rfl) rfl
theorem gx_P : Cond.code y_P_init b_P_init 3 none ∈ gw_tbl := gw_of (lw_in1 7 rfl) rfl
theorem gx_M : Cond.code y_M_init b_M_init 3 none ∈ gw_tbl := gw_of (lw_in1 218 rfl) rfl
theorem gt_P : Cond.instantiable R_P 16 ∈ gw_tbl := gw_of (lw_in1 4 rfl) rfl
theorem gt_M : Cond.instantiable R_M 12 ∈ gw_tbl := gw_of (lw_in1 215 rfl) rfl
theorem gk_P : Cond.classLink R_law 7 R_P ∈ gw_tbl := gw_of (lw_in1 3 rfl) rfl
theorem gk_M : Cond.classLink R_law 18 R_M ∈ gw_tbl := gw_of (lw_in1 214 rfl) rfl
theorem good_code {c : Cond} (h : c ∈ gw_tbl) : GoodIn gw_tbl (c :: gw_tbl) := by
  intro w hw
  have hg : w ∈ gw_tbl := by
    rcases List.mem_cons.mp hw with rfl | hw
    · exact h
    · exact hw
  exact ⟨hg, good_of_word (gw_good hg)⟩
theorem good_cell : GoodIn gw_tbl (wsS R_law 9 y_L_cell (.code y_L_cell b_L_cell 2 (some .int) :: gw_tbl)) := by
  intro w hw
  have hg : w ∈ gw_tbl := by
    rcases List.mem_append.mp hw with hw | hw
    · simp only [List.mem_cons, List.not_mem_nil, or_false] at hw
      rcases hw with rfl | rfl | rfl
      · exact gl_L_9
      · exact gs_cell
      · exact gw_ini_L
    · rcases List.mem_cons.mp hw with rfl | hw
      · exact gc_cell
      · exact hw
  exact ⟨hg, good_of_word (gw_good hg)⟩
section Cell
variable {p : Program} {l : Launch} {e : Env} {s : State} {m : MethodId} {below : List Frame} {meth : Method} {c : Code} {b L : Nat} {xs : Nat → Int32} {H : Heap} {locs : List Loc} {cells slots : Nat} {Q : State → Prop}
theorem w_cell (hL : L ≤ 2050) (C0 : lw_At p s m meth c b L xs) {D : va_G} {ws : va_W} (hP : va_P D classes ws H) (hS : va_S (fun q : Nat => s.heap.size ≤ q) s.heap H locs) {pc : Nat} {ls : Array Slot} {rest : List Value} {k : Int} (k0 : 0 ≤ k) (k1 : k ≤ 1000) (hsz : ls.size = 4) (hst : (rest.map fun v => v.category).sum ≤ 8) (hc : cells + 0 ≤ room_1.cells ∧ slots + 0 ≤ room_1.slots) (hd : decode code pc = .ok (.invokestatic 9, 3))
    (kk : ∀ (H1 : Heap) (locs1 : List Loc), va_P D classes ws H1 → va_S (fun q : Nat => s.heap.size ≤ q) s.heap H1 locs1 → W p l e room_1 s m #[Value.ref b] below meth c H1 locs1 cells slots Q (F0 m (pc + 3) ls (vI (cellV L xs k) :: rest))) : W p l e room_1 s m #[Value.ref b] below meth c H locs cells slots Q (F0 m pc ls (vI k :: .ref b :: rest)) := by
  obtain ⟨hx, hb, hr, hml, hown, hts, hX, hbl, hlocks, hgv⟩ := C0
  have hts' : ∀ w ∈ gw_tbl, w.before #[Value.ref b] s = true := fun w hw => hts w (gw_in hw)
  have hXH : va_X b L xs s H := hX.kept (hS.2.1 b hbl (Nat.not_le.mpr hbl))
  refine va_calli (va_runS (As := [.ref b, vI k]) (rest := rest) (n := 2) ⟨hx, hb, hml, hown, hts'⟩ (c_L_cell l b L xs hL k k0 k1) (cwS 2 hts' good_cell rfl rfl rfl (by decide +kernel) ⟨Nat.le_of_ble_eq_true rfl, Nat.le_of_ble_eq_true rfl⟩) ⟨fun a U g mk q => ⟨q.1, va_X.moved (Vm.Alike.refl U.vm) q.2⟩, fun U hU hW => ⟨rfl, by show va_X b L xs U U.heap; rw [hU]; exact va_X.moved hW.alike hXH⟩⟩ rfl rfl hsz rfl (lv_room hst) hd hc) hS (fun q _ h => h.elim) (fun q h => h.elim) (fun r u t H1 locs1 ht hvm hw _ hz1 hk1 hS1 => ?_)
  rw [hw]
  exact kk H1 locs1 (hP.kept (fun k x hx => hk1 x.1 ((hP k x hx).lt) (fun h => h))) hS1
end Cell
set_option maxHeartbeats 4000000 in
set_option maxRecDepth 100000 in
/-- THE LAW, from its entry -/
theorem whole_start {p : Program} {e : Env} {s : State} {m : MethodId} {below : List Frame} {meth : Method} {c : Code} (l : Launch) {b L : Nat} {xs : Nat → Int32} (hL : L ≤ 2050) (C0 : lw_At p s m meth c b L xs) : W p l e room_1 s m #[Value.ref b] below meth c s.heap [] 0 0 (lw_Z below #[Value.ref b] s) (entryFrame m ([Value.ref b] : List Value).toArray 4) := by
  obtain ⟨hx, hb, hr, hml, hown, hts, hX, hbl, hlocks, hgv⟩ := id C0
  have hts' : ∀ w ∈ gw_tbl, w.before #[Value.ref b] s = true := fun w hw => hts w (gw_in hw)
  have hA : ∀ q : Nat, s.heap.size ≤ q → (fun q : Nat => s.heap.size ≤ q) q := fun _ h => h
  obtain ⟨c0, iS0, hKn0⟩ := u_known (C := R_P) (T := F_P) (N := 16) (n := 16) hts i_P (hts (.instantiable R_P 16) (gw_in gt_P))
  obtain ⟨c1, iS1, hKn1⟩ := u_known (C := R_M) (T := F_M) (N := 12) (n := 12) hts i_M (hts (.instantiable R_M 12) (gw_in gt_M))
  obtain ⟨dC, dI, hKc⟩ : ∃ (dC : Nat → ClassId) (dI : Nat → Nat → Nat), ∀ (k : Nat) (q : vw_C), classes[k]? = some q → u_Kn s q.1 q.2.1 q.2.2 (dC k) (dI k) := by
    refine ⟨fun k => if k = 0 then c0 else c1, fun k => if k = 0 then iS0 else iS1, ?_⟩
    intro k q hq
    match k, hq with
    | 0, hq => cases hq; exact hKn0
    | 1, hq => cases hq; exact hKn1
    | k + 2, hq => simp [classes] at hq
  have hS : va_S (fun q : Nat => s.heap.size ≤ q) s.heap s.heap [] := va_S.rf
  have hK : va_K (dC, dI) classes [] s := ⟨hKc, fun k q h => by simp at h⟩
  have hP : va_P (dC, dI) classes [] s.heap := fun k q h => by simp at h
  have hD : va_D (fun q : Nat => s.heap.size ≤ q) [] := ⟨fun i j p q h => by simp at h, fun k q h => by simp at h⟩
  have hl := lv_entry ([.ref b]) (n := 4) (Nat.le_of_ble_eq_true rfl)
  rw [lg_entry_eq]
  generalize (lg_sl ([.ref b]) ++ List.replicate (4 - (lg_sl ([.ref b])).length) Slot.unset).toArray = ls at hl ⊢
  have hl : lv_has ls 4 [(0, .ref b)] := hl
  refine va_new (ci := 0) (fs := fsP0) (C := R_P) (T := F_P) (N := 16) hx hb hts i_P t_P t_P_ok hown (hts (.classLink R_law 7 R_P) (gw_in gk_P)) (hts (.instantiable R_P 16) (gw_in gt_P)) (hts (.initialized R_P) (gw_in gw_ini_P)) hK hP hD hS hA rfl (fun j hj => by rcases (show j = 0 ∨ j = 1 ∨ j = 2 ∨ j = 3 ∨ j = 4 ∨ j = 5 ∨ j = 6 ∨ j = 7 ∨ j = 8 ∨ j = 9 ∨ j = 10 ∨ j = 11 ∨ j = 12 ∨ j = 13 ∨ j = 14 ∨ j = 15 by omega) with rfl | rfl | rfl | rfl | rfl | rfl | rfl | rfl | rfl | rfl | rfl | rfl | rfl | rfl | rfl | rfl <;> rfl) (Nat.le_of_ble_eq_true rfl) (Nat.le_of_ble_eq_true rfl) d_law_0 (fun q0 H hP hD hS => ?_)
  have hP : va_P (dC, dI) classes [(q0, .inr (0, fsP0))] H := hP
  have hD : va_D (fun q : Nat => s.heap.size ≤ q) [(q0, .inr (0, fsP0))] := hD
  refine W.widen (k := 1) (n := 16) (Nat.le_of_ble_eq_true rfl) (Nat.le_of_ble_eq_true rfl) ?_
  refine lv_dup hx hb d_law_3 rfl ?_
  refine lv_aload_n hx hb d_law_4 rfl (lv_at hl 0 rfl) ?_
  refine lv_iconst (v := Int32.ofInt 0) hx hb d_law_5 (by decide) ?_
  refine w_cell (k := 0) hL C0 hP hS (by omega) (by omega) hl.1 (Nat.le_of_ble_eq_true rfl) ⟨Nat.le_of_ble_eq_true rfl, Nat.le_of_ble_eq_true rfl⟩ d_law_6 (fun H locs hP hS => ?_)
  refine lv_aload_n hx hb d_law_9 rfl (lv_at hl 0 rfl) ?_
  refine lv_iconst (v := Int32.ofInt 1) hx hb d_law_10 (by decide) ?_
  refine w_cell (k := 1) hL C0 hP hS (by omega) (by omega) hl.1 (Nat.le_of_ble_eq_true rfl) ⟨Nat.le_of_ble_eq_true rfl, Nat.le_of_ble_eq_true rfl⟩ d_law_11 (fun H locs hP hS => ?_)
  have hPc := hP.sub (ws' := [(q0, .inr (0, fsP0))]) [0] rfl
  have hDc := hD.sub (ws' := [(q0, .inr (0, fsP0))]) [0] (by decide) rfl
  have hKc := hK.sub (tys' := []) [] rfl
  have hFc := va_free (wc := [(q0, .inr (0, fsP0))]) hD hS hA [0] rfl
  refine va_callv (va_runI (As := [vI (cellV L xs 0), vI (cellV L xs 1)]) (rest := [.ref q0]) ⟨hx, hb, hml, hown, hts'⟩ (c_P_init l dC dI q0 H.size (cellV L xs 0) (cellV L xs 1) (cellV_bd L xs 0).1 (cellV_bd L xs 0).2 (cellV_bd L xs 1).1 (cellV_bd L xs 1).2) (cwI 2 hts' (good_code gx_P) rfl rfl rfl (hts' _ gw_ini_P) (hts' _ gl_L_15) (hts' _ gi_P) rfl (by decide +kernel) ⟨Nat.le_of_ble_eq_true rfl, Nat.le_of_ble_eq_true rfl⟩) ⟨fun a U g mk q => by obtain ⟨q0, q1, qP, qK, qD⟩ := q; exact ⟨q0, q1, qP, va_K.moved (u := U) (U := U.calling g mk a) (Vm.Alike.refl U.vm) qK, qD⟩, fun U hU hW => ⟨rfl, by rw [hU], by rw [hU]; exact hPc, va_K.moved hW.alike hKc, hDc.weaken (fun _ _ _ _ => trivial)⟩⟩ rfl rfl hl.1 rfl (lv_room (Nat.le_of_ble_eq_true rfl)) d_law_14 ⟨Nat.le_of_ble_eq_true rfl, Nat.le_of_ble_eq_true rfl⟩) hS (fun q _ h => hFc q h) hFc (fun uP t H1 locs ht hvm hwP hB hz1 hk1 hS => ?_)
  obtain ⟨hP1, hK1, hD1⟩ := hB
  rw [ht] at hP1
  have hK1 := va_K.moved hvm.symm hK1
  obtain ⟨hP, hD⟩ := va_join (wr := []) (w1 := (PW ((dC, dI), uP.1, uP.2.1, uP.2.2, 0) (S0 (cellV L xs 0) (cellV L xs 1)))) hP hD [0] [] rfl rfl (by decide) (by decide) hk1 hFc hP1 hD1
  have hK := (hK.sub (tys' := []) [] rfl).app hK1
  generalize H1 = H at hP hS ⊢
  have hP : va_P (dC, dI) classes (PW ((dC, dI), uP.1, uP.2.1, uP.2.2, 0) (S0 (cellV L xs 0) (cellV L xs 1))) H := hP
  have hD : va_D (fun q : Nat => s.heap.size ≤ q) (PW ((dC, dI), uP.1, uP.2.1, uP.2.2, 0) (S0 (cellV L xs 0) (cellV L xs 1))) := hD
  refine W.widen (k := 12) (n := 132) (Nat.le_of_ble_eq_true rfl) (Nat.le_of_ble_eq_true rfl) ?_
  refine lv_astore_n (lv' := [(1, .ref q0), (0, .ref b)]) hx hb d_law_17 rfl hl (by decide) rfl (fun ls hl => ?_)
  refine va_new (ci := 1) (fs := fsM0) (C := R_M) (T := F_M) (N := 12) hx hb hts i_M t_M t_M_ok hown (hts (.classLink R_law 18 R_M) (gw_in gk_M)) (hts (.instantiable R_M 12) (gw_in gt_M)) (hts (.initialized R_M) (gw_in gw_ini_M)) hK hP hD hS hA rfl (fun j hj => by rcases (show j = 0 ∨ j = 1 ∨ j = 2 ∨ j = 3 ∨ j = 4 ∨ j = 5 ∨ j = 6 ∨ j = 7 ∨ j = 8 ∨ j = 9 ∨ j = 10 ∨ j = 11 by omega) with rfl | rfl | rfl | rfl | rfl | rfl | rfl | rfl | rfl | rfl | rfl | rfl <;> rfl) (Nat.le_of_ble_eq_true rfl) (Nat.le_of_ble_eq_true rfl) d_law_18 (fun q1 H hP hD hS => ?_)
  have hP : va_P (dC, dI) classes ((PW ((dC, dI), uP.1, uP.2.1, uP.2.2, 0) (S0 (cellV L xs 0) (cellV L xs 1))) ++ [(q1, .inr (1, fsM0))]) H := hP
  have hD : va_D (fun q : Nat => s.heap.size ≤ q) ((PW ((dC, dI), uP.1, uP.2.1, uP.2.2, 0) (S0 (cellV L xs 0) (cellV L xs 1))) ++ [(q1, .inr (1, fsM0))]) := hD
  refine W.widen (k := 13) (n := 144) (Nat.le_of_ble_eq_true rfl) (Nat.le_of_ble_eq_true rfl) ?_
  refine lv_dup hx hb d_law_21 rfl ?_
  refine lv_aload_n hx hb d_law_22 rfl (lv_at hl 1 rfl) ?_
  refine lv_iconst (v := Int32.ofInt 0) hx hb d_law_23 (by decide) ?_
  refine w_cell (k := 0) hL C0 hP hS (by omega) (by omega) hl.1 (Nat.le_of_ble_eq_true rfl) ⟨Nat.le_of_ble_eq_true rfl, Nat.le_of_ble_eq_true rfl⟩ d_law_24 (fun H locs hP hS => ?_)
  refine lv_aload_n hx hb d_law_27 rfl (lv_at hl 1 rfl) ?_
  refine lv_iconst (v := Int32.ofInt 1) hx hb d_law_28 (by decide) ?_
  refine w_cell (k := 1) hL C0 hP hS (by omega) (by omega) hl.1 (Nat.le_of_ble_eq_true rfl) ⟨Nat.le_of_ble_eq_true rfl, Nat.le_of_ble_eq_true rfl⟩ d_law_29 (fun H locs hP hS => ?_)
  have hPc := hP.sub (ws' := [(q1, .inr (1, fsM0))]) [12] rfl
  have hDc := hD.sub (ws' := [(q1, .inr (1, fsM0))]) [12] (by decide) rfl
  have hKc := hK.sub (tys' := []) [] rfl
  have hFc := va_free (wc := [(q1, .inr (1, fsM0))]) hD hS hA [12] rfl
  refine va_callv (va_runI (As := [vI (cellV L xs 0), vI (cellV L xs 1)]) (rest := [.ref q1]) ⟨hx, hb, hml, hown, hts'⟩ (c_M_init l dC dI q1 H.size (cellV L xs 0) (cellV L xs 1) (cellV_bd L xs 0).1 (cellV_bd L xs 0).2 (cellV_bd L xs 1).1 (cellV_bd L xs 1).2) (cwI 2 hts' (good_code gx_M) rfl rfl rfl (hts' _ gw_ini_M) (hts' _ gl_L_20) (hts' _ gi_M) rfl (by decide +kernel) ⟨Nat.le_of_ble_eq_true rfl, Nat.le_of_ble_eq_true rfl⟩) ⟨fun a U g mk q => by obtain ⟨q0, q1, qP, qK, qD⟩ := q; exact ⟨q0, q1, qP, va_K.moved (u := U) (U := U.calling g mk a) (Vm.Alike.refl U.vm) qK, qD⟩, fun U hU hW => ⟨rfl, by rw [hU], by rw [hU]; exact hPc, va_K.moved hW.alike hKc, hDc.weaken (fun _ _ _ _ => trivial)⟩⟩ rfl rfl hl.1 rfl (lv_room (Nat.le_of_ble_eq_true rfl)) d_law_32 ⟨Nat.le_of_ble_eq_true rfl, Nat.le_of_ble_eq_true rfl⟩) hS (fun q _ h => hFc q h) hFc (fun uM t H1 locs ht hvm hwM hB hz1 hk1 hS => ?_)
  obtain ⟨hP1, hK1, hD1⟩ := hB
  rw [ht] at hP1
  have hK1 := va_K.moved hvm.symm hK1
  obtain ⟨hP, hD⟩ := va_join (wr := (PW ((dC, dI), uP.1, uP.2.1, uP.2.2, 0) (S0 (cellV L xs 0) (cellV L xs 1)))) (w1 := (MW ((dC, dI), uM.1, uM.2.1, 0, uM.2.2) (S0 (cellV L xs 0) (cellV L xs 1)))) hP hD [12] [0, 1, 2, 3, 4, 5, 6, 7, 8, 9, 10, 11] rfl rfl (by decide) (by decide) hk1 hFc hP1 hD1
  have hK := (hK.sub (tys' := [(uP.2.1, .boolean), (uP.2.2, .byte)]) [0, 1] rfl).app hK1
  generalize H1 = H at hP hS ⊢
  have hP : va_P (dC, dI) classes ((PW ((dC, dI), uP.1, uP.2.1, uP.2.2, 0) (S0 (cellV L xs 0) (cellV L xs 1))) ++ (MW ((dC, dI), uM.1, uM.2.1, 0, uM.2.2) (S0 (cellV L xs 0) (cellV L xs 1)))) H := hP
  have hD : va_D (fun q : Nat => s.heap.size ≤ q) ((PW ((dC, dI), uP.1, uP.2.1, uP.2.2, 0) (S0 (cellV L xs 0) (cellV L xs 1))) ++ (MW ((dC, dI), uM.1, uM.2.1, 0, uM.2.2) (S0 (cellV L xs 0) (cellV L xs 1)))) := hD
  refine W.widen (k := 22) (n := 5436) (Nat.le_of_ble_eq_true rfl) (Nat.le_of_ble_eq_true rfl) ?_
  refine lv_astore_n (lv' := [(2, .ref q1), (1, .ref q0), (0, .ref b)]) hx hb d_law_35 rfl hl (by decide) rfl (fun ls hl => ?_)
  refine lv_iconst (v := Int32.ofInt 2) hx hb d_law_36 (by decide) ?_
  refine lv_istore_n (lv' := [(3, vI 2), (2, .ref q1), (1, .ref q0), (0, .ref b)]) hx hb d_law_37 rfl hl (by decide) rfl (fun ls hl => ?_)
  have hK : va_K (dC, dI) classes [(uP.2.1, .boolean), (uP.2.2, .byte), (uM.2.1, .boolean), (uM.2.2, .int)] s := hK
  rw [← hwP, ← hwM] at hl
  have hC : CL (p, l, e, s, m, below, meth, c, ((dC, dI), uP.1, uP.2.1, uP.2.2, uM.2.2), ((dC, dI), uM.1, uM.2.1, uP.2.2, uM.2.2), b, L, xs) := ⟨C0, hL, rfl, hK.sub [0, 1, 3] rfl, hK.sub [2, 1, 3] rfl⟩
  refine law_loop hC (L + 1) 2 (S0 (cellV L xs 0) (cellV L xs 1)) (S0 (cellV L xs 0) (cellV L xs 1)) (S0_rel _ _) (by omega) (by omega) (by show (L : Int) - 2 < _; omega) (by omega) (S0_okP _ _) (S0_okM _ _) H locs ls hP hD hS ⟨hl.1, hl.2.1, fun i v hi => ?_⟩
  match i, hi with
  | 0, hi => cases hi; exact ⟨lv_at hl 3 rfl, rfl⟩
  | 1, hi => cases hi; exact ⟨lv_at hl 2 rfl, rfl⟩
  | 2, hi => cases hi; exact ⟨lv_at hl 1 rfl, rfl⟩
  | 3, hi => cases hi; exact ⟨lv_at hl 0 rfl, rfl⟩
  | i + 4, hi => simp [Lc] at hi
end
section
set_option maxHeartbeats 4000000 in
theorem lw_walk (l : Launch) (b : Addr) (xs : List Int32) : MetFree l x (headSpec (Jvm.Cond.code x code maxLocals ret :: tables_1) room_1) (lw_P b xs) (fun _ _ _ _ _ => True) lw_Q := by
  refine MetFree.of_bodyS (code := code) (maxLocals := maxLocals) (ret := ret) (by decide) ?_ ?_
  · intro args s m h hn
    obtain ⟨meth, c, h1, h2, h3, h4, h5, h6, -, -⟩ := Cond.code_spec hn (atoms_spec (ws := Jvm.Cond.code x code maxLocals ret :: tables_1) h _ List.mem_cons_self)
    exact ⟨meth, c, h1, h2, h3, h4, h5, h6⟩
  · intro p e s m args below meth c s₁ B hml0 hP _
    obtain ⟨rfl, hx, hbd, hgv⟩ := hP
    obtain ⟨scr, harrAt, hlist, hof, hsmall⟩ := hx
    obtain ⟨hcb, hkn, -, -⟩ := State.arrayAt?_spec harrAt
    have hown : s.vm.findClass R_law = some m.cls := findClass_of_methodNamed B.named
    have hts0 : ∀ c ∈ (Jvm.Cond.code x code maxLocals ret :: tables_1), c.before #[Value.ref b] s = true := atoms_spec (ws := Jvm.Cond.code x code maxLocals ret :: tables_1) B.pre
    have hts : ∀ w ∈ lw_tbl, w.before #[Value.ref b] s = true := k2_hts_sels lw_privs (fun w hw => hts0 w (List.mem_cons_of_mem _ hw)) lw_privs_ok
    have hml : c.maxLocals = 4 := B.maxLocals_eq (hts0 _ List.mem_cons_self)
    have X₀ : Stand p l e room_1 s m #[Value.ref b] below meth c s₁ [] 0 0 := Stand.of_body B
    have hh0 : s₁.heap = s.heap := by rw [B.state]; rfl
    have hsz : scr.slots.size = xs.length := by rw [← Array.length_toList, hlist, List.length_map]
    have hval : ∀ j : Nat, j < xs.length → scr.slots[j]? = some (.int (xs.getD j 0)) := fun j hj => by
      rw [← Array.getElem?_toList, hlist]
      simp [hj]
    have hbl : b < s.heap.size := (Array.getElem?_eq_some_iff.mp hcb).1
    have hX : va_X b xs.length (fun j => xs.getD j 0) s s.heap := ⟨scr, hcb, hof, hkn, hsz, hval⟩
    have K : W p l e room_1 s m #[Value.ref b] below meth c s₁.heap [] 0 0 (lw_Z below #[Value.ref b] s) (entryFrame m ([Value.ref b] : List Value).toArray 4) := by
      rw [hh0]
      exact whole_start l hbd ⟨B.exec, B.bytes, B.returns, hml, hown, hts, hX, hbl, B.notSynchronized, hgv⟩
    obtain ⟨t, a1, o, b1, b2, b3⟩ := K s₁ rfl X₀
    exact ⟨t, o, a1, b1, b2, b3⟩
theorem lw_pre_spec {args : Array Value} {s : State} (h : (Jvm.Cond.and given_1 narrow_1).before args s = true) (hr : rest_1_c.before args s = true) : ∃ (b : Addr) (xs : List Int32), lw_P b xs args s := by
  have hs := flat_of_before _ h
  have hq := flat_of_before _ hr
  have hc : (Cond.count 1).before args s = true := hs _ (by decide +kernel)
  have harr : (Cond.arrayOf (.arg 0) .int).before args s = true := hs _ (by decide +kernel)
  have hle : (Cond.le (.length (.arg 0)) (.int 2050)).before args s = true := hs _ (by decide +kernel)
  have hlen : (Cond.isInt (.length (.arg 0))).before args s = true := hq _ (by decide +kernel)
  have hall : (Cond.all (.arg 0) (.isInt (.elem (.arg 0) (.index 0)))).before args s = true := hq _ (by decide +kernel)
  obtain ⟨b, xs, hb, hx⟩ := State.ints_of_pre rfl harr hlen hall
  have hsm : xs.length < 2 ^ 31 := hx.choose_spec.2.2.2
  have hev : (Term.length (.arg 0)).eval args s none [] s = some (.int xs.length.toInt32) := hx.length_eval hb
  have hv := Cond.le_ints hev (show (Term.int 2050).eval args s none [] s = some (.int 2050) from rfl)
  have hd : xs.length.toInt32 ≤ 2050 := by
    simpa [Cond.before, Cond.holds, hv] using hle
  have hN : xs.length ≤ 2050 := (Int32.ofNat_le_ofNat hsm (by decide)).mp (show Int32.ofNat xs.length ≤ Int32.ofNat 2050 from hd)
  exact ⟨b, xs, Cond.one_arg hc (show args[0]? = some (.ref b) from hb), hx, hN, h⟩
theorem lw_comes (l : Launch) : Comes l x (Jvm.Cond.code x code maxLocals ret :: tables_1) room_1 (fun tb e args s => Calls_1 tb e args s ∧ rest_1 tb e args s ∧ Pre_1 tb e args s)
    (fun _ _ args s o t => lw_Q args s o t) := by
  intro p e ha hc hk s m args below hf hfit hheap happ hpre
  obtain ⟨b, xs, hP⟩ := lw_pre_spec hpre.2.2 hpre.2.1
  obtain ⟨k, o, h1, h2, h3, hQ⟩ := lw_walk l b xs p e ha hc hk s m args below hf ((Spec.applies_iff_loose hf).mp happ).1 hP trivial
  exact ⟨k, o, h1, h2, h3, hQ⟩
theorem lw_frame {s t : State} {o : Outcome} {args : Array Value} (h : Framed s o t [] 22 5436) :
    Framed s o t (fieldLocs frame_1_writes args s ++ arrayLocs frame_1_arrays args s ++ staticLocs frame_1_statics s) 22 5436 := h
theorem lw_limb (L : Cond) (hL : ∀ (args : Array Value) (s t : State), L.after args s (.returned (some (.int 1))) t = true) :
    ArmFor flags0 classFile x code maxLocals ret World_1 tables_1 room_1 Calls_1 rest_1 Pre_1
      (fun tb e a s o t => postC L tb e a s o t ∧ Framed s o t (fieldLocs frame_1_writes a s ++ arrayLocs frame_1_arrays a s ++ staticLocs frame_1_statics s) 22 5436) := by
  intro l _ _ _ p e ha hc hk s m args below hf hfit hheap happ hpre
  obtain ⟨k, o, h1, h2, h3, rfl, hF⟩ := lw_comes l p e ha hc hk s m args below hf hfit hheap happ hpre
  exact ⟨k, _, h1, h2, h3, hL args s _, lw_frame hF⟩
theorem i_vc : Claimed_1_1 ∧ Claimed_1_2 := ⟨lw_limb limb_1_1 (fun args s t => by simp [limb_1_1, Cond.after, Cond.holds, Cond.value]), lw_limb limb_1_2 (fun args s t => Cond.after_iff.mpr (by
  first | (rw [show limb_1_2 = Cond.eq .result (.int 1) from rfl, Cond.eq_ints (x := 1) (y := 1) rfl rfl]; simp; done) | (simp [limb_1_2, Cond.value, Term.eval]; done)))⟩
end
