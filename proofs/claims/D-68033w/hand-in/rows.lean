section
def lw_okq (q : MethodName × Nat) : Prop := (q.1.cls ≠ "java/lang/invoke/MethodHandle" ∧ q.1.cls ≠ "java/lang/invoke/VarHandle") ∧ Cond.instantiable q.1.cls q.2 ∈ tables_1 ∧ Cond.privateMethod q.1 ∈ tables_1 ∧ Cond.instanceMethod q.1 ∈ tables_1
theorem lw_p0 : lw_okq (⟨"PartsFlow", "may", "(IIII)Z"⟩, 15) := ⟨⟨by decide +kernel, by decide +kernel⟩, List.mem_of_getElem? (i := 6) (by decide +kernel), List.mem_of_getElem? (i := 110) (by decide +kernel), List.mem_of_getElem? (i := 111) (by decide +kernel)⟩
theorem lw_p1 : lw_okq (⟨"PartsFlow", "isPoint", "(I)Z"⟩, 15) := ⟨⟨by decide +kernel, by decide +kernel⟩, List.mem_of_getElem? (i := 6) (by decide +kernel), List.mem_of_getElem? (i := 126) (by decide +kernel), List.mem_of_getElem? (i := 127) (by decide +kernel)⟩
theorem lw_p2 : lw_okq (⟨"PartsFlow", "know", "()V"⟩, 15) := ⟨⟨by decide +kernel, by decide +kernel⟩, List.mem_of_getElem? (i := 6) (by decide +kernel), List.mem_of_getElem? (i := 134) (by decide +kernel), List.mem_of_getElem? (i := 135) (by decide +kernel)⟩
theorem lw_p3 : lw_okq (⟨"PartsFlow", "come", "(I)V"⟩, 15) := ⟨⟨by decide +kernel, by decide +kernel⟩, List.mem_of_getElem? (i := 6) (by decide +kernel), List.mem_of_getElem? (i := 147) (by decide +kernel), List.mem_of_getElem? (i := 148) (by decide +kernel)⟩
theorem lw_p4 : lw_okq (⟨"PartsFlow", "pass", "(I)V"⟩, 15) := ⟨⟨by decide +kernel, by decide +kernel⟩, List.mem_of_getElem? (i := 6) (by decide +kernel), List.mem_of_getElem? (i := 155) (by decide +kernel), List.mem_of_getElem? (i := 156) (by decide +kernel)⟩
theorem lw_p5 : lw_okq (⟨"PartsFlowModel", "isVariable", "(I)Z"⟩, 14) := ⟨⟨by decide +kernel, by decide +kernel⟩, List.mem_of_getElem? (i := 188) (by decide +kernel), List.mem_of_getElem? (i := 245) (by decide +kernel), List.mem_of_getElem? (i := 246) (by decide +kernel)⟩
theorem lw_p6 : lw_okq (⟨"PartsFlowModel", "isPoint", "(I)Z"⟩, 14) := ⟨⟨by decide +kernel, by decide +kernel⟩, List.mem_of_getElem? (i := 188) (by decide +kernel), List.mem_of_getElem? (i := 253) (by decide +kernel), List.mem_of_getElem? (i := 254) (by decide +kernel)⟩
theorem lw_p7 : lw_okq (⟨"PartsFlowModel", "go", "(II)V"⟩, 14) := ⟨⟨by decide +kernel, by decide +kernel⟩, List.mem_of_getElem? (i := 188) (by decide +kernel), List.mem_of_getElem? (i := 261) (by decide +kernel), List.mem_of_getElem? (i := 262) (by decide +kernel)⟩
theorem lw_p8 : lw_okq (⟨"PartsFlowModel", "come", "(II)V"⟩, 14) := ⟨⟨by decide +kernel, by decide +kernel⟩, List.mem_of_getElem? (i := 188) (by decide +kernel), List.mem_of_getElem? (i := 265) (by decide +kernel), List.mem_of_getElem? (i := 266) (by decide +kernel)⟩
theorem lw_p9 : lw_okq (⟨"PartsFlowModel", "bits", "(III)I"⟩, 14) := ⟨⟨by decide +kernel, by decide +kernel⟩, List.mem_of_getElem? (i := 188) (by decide +kernel), List.mem_of_getElem? (i := 273) (by decide +kernel), List.mem_of_getElem? (i := 274) (by decide +kernel)⟩
def lw_privs_1 : List (MethodName × Nat) := [(⟨"PartsFlow", "may", "(IIII)Z"⟩, 15), (⟨"PartsFlow", "isPoint", "(I)Z"⟩, 15), (⟨"PartsFlow", "know", "()V"⟩, 15), (⟨"PartsFlow", "come", "(I)V"⟩, 15), (⟨"PartsFlow", "pass", "(I)V"⟩, 15), (⟨"PartsFlowModel", "isVariable", "(I)Z"⟩, 14), (⟨"PartsFlowModel", "isPoint", "(I)Z"⟩, 14), (⟨"PartsFlowModel", "go", "(II)V"⟩, 14), (⟨"PartsFlowModel", "come", "(II)V"⟩, 14), (⟨"PartsFlowModel", "bits", "(III)I"⟩, 14)]
theorem lw_r1 : ∀ q ∈ lw_privs_1, lw_okq q := List.forall_mem_cons.mpr ⟨lw_p0, List.forall_mem_cons.mpr ⟨lw_p1, List.forall_mem_cons.mpr ⟨lw_p2, List.forall_mem_cons.mpr ⟨lw_p3, List.forall_mem_cons.mpr ⟨lw_p4, List.forall_mem_cons.mpr ⟨lw_p5, List.forall_mem_cons.mpr ⟨lw_p6, List.forall_mem_cons.mpr ⟨lw_p7, List.forall_mem_cons.mpr ⟨lw_p8, List.forall_mem_cons.mpr ⟨lw_p9, fun _ h => absurd h List.not_mem_nil⟩⟩⟩⟩⟩⟩⟩⟩⟩⟩
def lw_privs : List (MethodName × Nat) := lw_privs_1
def lw_tbl : List Cond := k2_sels lw_privs ++ tables_1
theorem lw_privs_ok : ∀ q ∈ lw_privs, lw_okq q := lw_r1
-- ===== names =====
abbrev R_PF : String := "PartsFlow"
abbrev R_PV : String := "PartsFlow$Variables"
abbrev R_PP : String := "PartsFlow$Parts"
abbrev R_PM : String := "PartsFlowModel"
def F_PF : u_T := fun k => match k with
  | 0 => ("PartsFlow", "variables", "LPartsFlow$Variables;", true)
  | 1 => ("PartsFlow", "doings", "[B", true)
  | 2 => ("PartsFlow", "ofs", "[I", true)
  | 3 => ("PartsFlow", "parts", "[I", true)
  | 4 => ("PartsFlow", "counts", "[I", true)
  | 5 => ("PartsFlow", "firsts", "[I", true)
  | 6 => ("PartsFlow", "seconds", "[I", true)
  | 7 => ("PartsFlow", "size", "I", false)
  | 8 => ("PartsFlow", "without", "[LPartsFlow$Parts;", true)
  | 9 => ("PartsFlow", "having", "[LPartsFlow$Parts;", true)
  | 10 => ("PartsFlow", "reached", "[Z", true)
  | 11 => ("PartsFlow", "nowWithout", "LPartsFlow$Parts;", true)
  | 12 => ("PartsFlow", "nowHaving", "LPartsFlow$Parts;", true)
  | 13 => ("PartsFlow", "isKnown", "Z", false)
  | _ => ("PartsFlow", "changed", "Z", false)
def t_PF : Nat → FieldType := fun k => match k with
  | 0 => .object "PartsFlow$Variables"
  | 1 => .array .byte
  | 2 => .array .int
  | 3 => .array .int
  | 4 => .array .int
  | 5 => .array .int
  | 6 => .array .int
  | 7 => .int
  | 8 => .array (.object "PartsFlow$Parts")
  | 9 => .array (.object "PartsFlow$Parts")
  | 10 => .array .boolean
  | 11 => .object "PartsFlow$Parts"
  | 12 => .object "PartsFlow$Parts"
  | 13 => .boolean
  | _ => .boolean
def F_PV : u_T := fun k => match k with
  | 0 => ("PartsFlow$Variables", "firsts", "[I", true)
  | 1 => ("PartsFlow$Variables", "once", "[Z", true)
  | 2 => ("PartsFlow$Variables", "given", "[Z", true)
  | _ => ("PartsFlow$Variables", "size", "I", false)
def t_PV : Nat → FieldType := fun k => match k with
  | 0 => .array .int
  | 1 => .array .boolean
  | 2 => .array .boolean
  | _ => .int
def F_PP : u_T := fun k => match k with
  | _ => ("PartsFlow$Parts", "words", "[J", true)
def t_PP : Nat → FieldType := fun k => match k with
  | _ => .array .long
def F_PM : u_T := fun k => match k with
  | 0 => ("PartsFlowModel", "variables", "I", false)
  | 1 => ("PartsFlowModel", "parts", "[I", true)
  | 2 => ("PartsFlowModel", "once", "[Z", true)
  | 3 => ("PartsFlowModel", "given", "[Z", true)
  | 4 => ("PartsFlowModel", "points", "I", false)
  | 5 => ("PartsFlowModel", "doings", "[I", true)
  | 6 => ("PartsFlowModel", "of", "[I", true)
  | 7 => ("PartsFlowModel", "from", "[I", true)
  | 8 => ("PartsFlowModel", "many", "[I", true)
  | 9 => ("PartsFlowModel", "xs", "[I", true)
  | 10 => ("PartsFlowModel", "ys", "[I", true)
  | 11 => ("PartsFlowModel", "seen", "[Z", true)
  | 12 => ("PartsFlowModel", "pile", "[I", true)
  | _ => ("PartsFlowModel", "high", "I", false)
def t_PM : Nat → FieldType := fun k => match k with
  | 0 => .int
  | 1 => .array .int
  | 2 => .array .boolean
  | 3 => .array .boolean
  | 4 => .int
  | 5 => .array .int
  | 6 => .array .int
  | 7 => .array .int
  | 8 => .array .int
  | 9 => .array .int
  | 10 => .array .int
  | 11 => .array .boolean
  | 12 => .array .int
  | _ => .int
abbrev classes : List vw_C := [(R_PF, F_PF, 15), (R_PV, F_PV, 4), (R_PP, F_PP, 1), (R_PM, F_PM, 14)]
def BW : List Cond := lw_tbl.filter goodWord
theorem lw_mem (i : Nat) {w : Cond} (h : tables_1[i]? = some w) : w ∈ lw_tbl := List.mem_append_right _ (List.mem_of_getElem? h)
theorem lw_memP (i : Nat) {q : MethodName × Nat} (h : lw_privs[i]? = some q) : Cond.selects q.1.cls q.1 q.1 ∈ lw_tbl := List.mem_append_left _ (List.mem_map.mpr ⟨q, List.mem_of_getElem? h, rfl⟩)
theorem bw_of {w : Cond} (h : w ∈ lw_tbl) (g : goodWord w = true) : w ∈ BW := List.mem_filter.mpr ⟨h, g⟩
theorem bw_sub {w : Cond} (h : w ∈ BW) : w ∈ lw_tbl := (List.mem_filter.mp h).1
theorem bw_good {w : Cond} (h : w ∈ BW) : (w.onTables && w.keeps) = true ∨ ∃ ty, w = .arrayClass ty := good_of_word (List.mem_filter.mp h).2
abbrev b_PF_init : ByteArray := prog_1_method_1_code
abbrev y_PF_init : MethodName := ⟨"PartsFlow", "<init>", "()V"⟩
abbrev b_PV_init : ByteArray := prog_3_method_1_code
abbrev y_PV_init : MethodName := ⟨"PartsFlow$Variables", "<init>", "()V"⟩
abbrev b_PP_init : ByteArray := prog_2_method_1_code
abbrev y_PP_init : MethodName := ⟨"PartsFlow$Parts", "<init>", "()V"⟩
abbrev b_PF_variable : ByteArray := prog_1_method_2_code
abbrev y_PF_variable : MethodName := ⟨"PartsFlow", "variable", "(IZZ)I"⟩
abbrev b_PV_add : ByteArray := prog_3_method_4_code
abbrev y_PV_add : MethodName := ⟨"PartsFlow$Variables", "add", "(IZZ)I"⟩
abbrev b_PF_point : ByteArray := prog_1_method_4_code
abbrev y_PF_point : MethodName := ⟨"PartsFlow", "point", "(IIII)I"⟩
abbrev b_PF_may : ByteArray := prog_1_method_3_code
abbrev y_PF_may : MethodName := ⟨"PartsFlow", "may", "(IIII)Z"⟩
abbrev b_PV_is : ByteArray := prog_3_method_2_code
abbrev y_PV_is : MethodName := ⟨"PartsFlow$Variables", "is", "(I)Z"⟩
abbrev b_PV_parts : ByteArray := prog_3_method_3_code
abbrev y_PV_parts : MethodName := ⟨"PartsFlow$Variables", "parts", "(I)I"⟩
abbrev b_PF_next : ByteArray := prog_1_method_6_code
abbrev y_PF_next : MethodName := ⟨"PartsFlow", "next", "(III)Z"⟩
abbrev b_PF_isPoint : ByteArray := prog_1_method_5_code
abbrev y_PF_isPoint : MethodName := ⟨"PartsFlow", "isPoint", "(I)Z"⟩
abbrev b_PF_isReached : ByteArray := prog_1_method_10_code
abbrev y_PF_isReached : MethodName := ⟨"PartsFlow", "isReached", "(I)Z"⟩
abbrev b_PF_know : ByteArray := prog_1_method_9_code
abbrev y_PF_know : MethodName := ⟨"PartsFlow", "know", "()V"⟩
abbrev b_PP_clear : ByteArray := prog_2_method_2_code
abbrev y_PP_clear : MethodName := ⟨"PartsFlow$Parts", "clear", "()V"⟩
abbrev b_PP_set : ByteArray := prog_2_method_4_code
abbrev y_PP_set : MethodName := ⟨"PartsFlow$Parts", "set", "(IIZ)V"⟩
abbrev b_PF_come : ByteArray := prog_1_method_7_code
abbrev y_PF_come : MethodName := ⟨"PartsFlow", "come", "(I)V"⟩
abbrev b_PP_addAll : ByteArray := prog_2_method_6_code
abbrev y_PP_addAll : MethodName := ⟨"PartsFlow$Parts", "addAll", "(LPartsFlow$Parts;)Z"⟩
abbrev b_PF_pass : ByteArray := prog_1_method_8_code
abbrev y_PF_pass : MethodName := ⟨"PartsFlow", "pass", "(I)V"⟩
abbrev b_PP_copy : ByteArray := prog_2_method_3_code
abbrev y_PP_copy : MethodName := ⟨"PartsFlow$Parts", "copy", "(LPartsFlow$Parts;)V"⟩
abbrev b_PF_without : ByteArray := prog_1_method_11_code
abbrev y_PF_without : MethodName := ⟨"PartsFlow", "without", "(II)I"⟩
abbrev b_PP_bits : ByteArray := prog_2_method_5_code
abbrev y_PP_bits : MethodName := ⟨"PartsFlow$Parts", "bits", "(II)I"⟩
abbrev b_PF_having : ByteArray := prog_1_method_12_code
abbrev y_PF_having : MethodName := ⟨"PartsFlow", "having", "(II)I"⟩
abbrev b_PF_fault : ByteArray := prog_1_method_13_code
abbrev y_PF_fault : MethodName := ⟨"PartsFlow", "fault", "(I)I"⟩
abbrev b_PF_count : ByteArray := prog_1_method_14_code
abbrev y_PF_count : MethodName := ⟨"PartsFlow", "count", "(I)I"⟩
abbrev b_PF_clear : ByteArray := prog_1_method_15_code
abbrev y_PF_clear : MethodName := ⟨"PartsFlow", "clear", "()I"⟩
abbrev b_PM_init : ByteArray := prog_5_method_1_code
abbrev y_PM_init : MethodName := ⟨"PartsFlowModel", "<init>", "()V"⟩
abbrev b_PM_variable : ByteArray := prog_5_method_4_code
abbrev y_PM_variable : MethodName := ⟨"PartsFlowModel", "variable", "(IZZ)I"⟩
abbrev b_PM_point : ByteArray := prog_5_method_5_code
abbrev y_PM_point : MethodName := ⟨"PartsFlowModel", "point", "(IIII)I"⟩
abbrev b_PM_isVariable : ByteArray := prog_5_method_2_code
abbrev y_PM_isVariable : MethodName := ⟨"PartsFlowModel", "isVariable", "(I)Z"⟩
abbrev b_PM_next : ByteArray := prog_5_method_6_code
abbrev y_PM_next : MethodName := ⟨"PartsFlowModel", "next", "(III)Z"⟩
abbrev b_PM_isPoint : ByteArray := prog_5_method_3_code
abbrev y_PM_isPoint : MethodName := ⟨"PartsFlowModel", "isPoint", "(I)Z"⟩
abbrev b_PM_isReached : ByteArray := prog_5_method_9_code
abbrev y_PM_isReached : MethodName := ⟨"PartsFlowModel", "isReached", "(I)Z"⟩
abbrev b_PM_go : ByteArray := prog_5_method_8_code
abbrev y_PM_go : MethodName := ⟨"PartsFlowModel", "go", "(II)V"⟩
abbrev b_PM_come : ByteArray := prog_5_method_7_code
abbrev y_PM_come : MethodName := ⟨"PartsFlowModel", "come", "(II)V"⟩
abbrev b_PM_without : ByteArray := prog_5_method_11_code
abbrev y_PM_without : MethodName := ⟨"PartsFlowModel", "without", "(II)I"⟩
abbrev b_PM_bits : ByteArray := prog_5_method_10_code
abbrev y_PM_bits : MethodName := ⟨"PartsFlowModel", "bits", "(III)I"⟩
abbrev b_PM_having : ByteArray := prog_5_method_12_code
abbrev y_PM_having : MethodName := ⟨"PartsFlowModel", "having", "(II)I"⟩
abbrev b_PM_fault : ByteArray := prog_5_method_13_code
abbrev y_PM_fault : MethodName := ⟨"PartsFlowModel", "fault", "(I)I"⟩
abbrev b_PM_count : ByteArray := prog_5_method_14_code
abbrev y_PM_count : MethodName := ⟨"PartsFlowModel", "count", "(I)I"⟩
abbrev b_PM_clear : ByteArray := prog_5_method_15_code
abbrev y_PM_clear : MethodName := ⟨"PartsFlowModel", "clear", "()I"⟩
abbrev b_law_law : ByteArray := code
theorem n_PF : ∀ a, a < 15 → ∀ b, b < 15 → a ≠ b → (F_PF a).2.1 ≠ (F_PF b).2.1 := by decide +kernel
theorem t_PF_ok : ∀ k, k < 15 → parseFieldDescriptor (F_PF k).2.2.1 = some (t_PF k) := by decide +kernel
theorem i0_PF : (u_ws R_PF F_PF 15).all (fun w => decide (w ∈ lw_tbl) && goodWord w) = true := by decide +kernel
theorem in_PF : ∀ w ∈ u_ws R_PF F_PF 15, w ∈ BW := fun w h => by
  have h1 := List.all_eq_true.mp i0_PF w h
  simp only [Bool.and_eq_true, decide_eq_true_eq] at h1
  exact bw_of h1.1 h1.2
theorem n_PV : ∀ a, a < 4 → ∀ b, b < 4 → a ≠ b → (F_PV a).2.1 ≠ (F_PV b).2.1 := by decide +kernel
theorem t_PV_ok : ∀ k, k < 4 → parseFieldDescriptor (F_PV k).2.2.1 = some (t_PV k) := by decide +kernel
theorem i0_PV : (u_ws R_PV F_PV 4).all (fun w => decide (w ∈ lw_tbl) && goodWord w) = true := by decide +kernel
theorem in_PV : ∀ w ∈ u_ws R_PV F_PV 4, w ∈ BW := fun w h => by
  have h1 := List.all_eq_true.mp i0_PV w h
  simp only [Bool.and_eq_true, decide_eq_true_eq] at h1
  exact bw_of h1.1 h1.2
theorem n_PP : ∀ a, a < 1 → ∀ b, b < 1 → a ≠ b → (F_PP a).2.1 ≠ (F_PP b).2.1 := by decide +kernel
theorem t_PP_ok : ∀ k, k < 1 → parseFieldDescriptor (F_PP k).2.2.1 = some (t_PP k) := by decide +kernel
theorem i0_PP : (u_ws R_PP F_PP 1).all (fun w => decide (w ∈ lw_tbl) && goodWord w) = true := by decide +kernel
theorem in_PP : ∀ w ∈ u_ws R_PP F_PP 1, w ∈ BW := fun w h => by
  have h1 := List.all_eq_true.mp i0_PP w h
  simp only [Bool.and_eq_true, decide_eq_true_eq] at h1
  exact bw_of h1.1 h1.2
theorem n_PM : ∀ a, a < 14 → ∀ b, b < 14 → a ≠ b → (F_PM a).2.1 ≠ (F_PM b).2.1 := by decide +kernel
theorem t_PM_ok : ∀ k, k < 14 → parseFieldDescriptor (F_PM k).2.2.1 = some (t_PM k) := by decide +kernel
theorem i0_PM : (u_ws R_PM F_PM 14).all (fun w => decide (w ∈ lw_tbl) && goodWord w) = true := by decide +kernel
theorem in_PM : ∀ w ∈ u_ws R_PM F_PM 14, w ∈ BW := fun w h => by
  have h1 := List.all_eq_true.mp i0_PM w h
  simp only [Bool.and_eq_true, decide_eq_true_eq] at h1
  exact bw_of h1.1 h1.2
def Fld (own : String) (idx ci k : Nat) (q : vw_C) (ty : Nat → FieldType) : Prop :=
  classes[ci]? = some q ∧ k < q.2.2 ∧ Cond.fieldLink own idx q.1 (q.2.1 k).2.1 (q.2.1 k).2.2.1 ∈ BW ∧ (q.2.1 k).1 = q.1 ∧ (∀ w ∈ u_ws q.1 q.2.1 q.2.2, w ∈ BW) ∧ (∀ j, j < q.2.2 → parseFieldDescriptor (q.2.1 j).2.2.1 = some (ty j)) ∧ (∀ a, a < q.2.2 → ∀ b, b < q.2.2 → a ≠ b → (q.2.1 a).2.1 ≠ (q.2.1 b).2.1)
def Cvd (own : String) (idx : Nat) (Cn : String) (y : MethodName) (b : ByteArray) (mL : Nat) (ret : Option FieldType) (n : Nat) : Prop :=
  GoodIn BW (wsV own idx Cn y (Cond.code y b mL ret :: BW)) ∧ (y.cls = Cn ∧ y.cls ≠ "java/lang/invoke/MethodHandle" ∧ y.cls ≠ "java/lang/invoke/VarHandle" ∧ (parseMethodDescriptor y.desc).map (fun d => d.parameters.length) = some n)
theorem good_BW {w0 : Cond} (h : w0 ∈ BW) : GoodIn BW (w0 :: BW) := by
  intro w hw
  rcases List.mem_cons.mp hw with rfl | hw
  · exact ⟨h, bw_good h⟩
  · exact ⟨hw, bw_good hw⟩
theorem cvd_of {own : String} {idx : Nat} {Cn : String} {y : MethodName} {b : ByteArray} {mL : Nat} {ret : Option FieldType} {n : Nat} (h1 : Cond.methodLink own idx y ∈ BW) (h2 : Cond.instanceMethod y ∈ BW) (h3 : Cond.selects Cn y y ∈ BW) (h4 : Cond.initialized Cn ∈ BW) (h5 : Cond.code y b mL ret ∈ BW)
    (hd : y.cls = Cn ∧ y.cls ≠ "java/lang/invoke/MethodHandle" ∧ y.cls ≠ "java/lang/invoke/VarHandle" ∧ (parseMethodDescriptor y.desc).map (fun d => d.parameters.length) = some n) : Cvd own idx Cn y b mL ret n := by
  refine ⟨fun w hw => ?_, hd⟩
  have hb : w ∈ BW := by
    simp only [wsV, List.cons_append, List.nil_append, List.mem_cons] at hw
    rcases hw with rfl | rfl | rfl | rfl | rfl | hw
    · exact h1
    · exact h2
    · exact h3
    · exact h4
    · exact h5
    · exact hw
  exact ⟨hb, bw_good hb⟩
theorem wi_law : Cond.initialized "PartsFlowLaw" ∈ BW := bw_of (lw_mem 0 (by decide +kernel)) rfl
theorem wi_PF : Cond.initialized "PartsFlow" ∈ BW := bw_of (lw_mem 1 (by decide +kernel)) rfl
theorem wi_PV : Cond.initialized "PartsFlow$Variables" ∈ BW := bw_of (lw_mem 2 (by decide +kernel)) rfl
theorem wi_PP : Cond.initialized "PartsFlow$Parts" ∈ BW := bw_of (lw_mem 3 (by decide +kernel)) rfl
theorem wi_PM : Cond.initialized "PartsFlowModel" ∈ BW := bw_of (lw_mem 4 (by decide +kernel)) rfl
theorem wl_law_7 : Cond.classLink "PartsFlowLaw" 7 "PartsFlow" ∈ BW := bw_of (lw_mem 5 (by decide +kernel)) rfl
theorem wt_PF : Cond.instantiable "PartsFlow" 15 ∈ BW := bw_of (lw_mem 6 (by decide +kernel)) rfl
theorem wm_PF_init : Cond.instanceMethod ⟨"PartsFlow", "<init>", "()V"⟩ ∈ BW := bw_of (lw_mem 8 (by decide +kernel)) rfl
theorem wc_PF_init : Cond.code y_PF_init b_PF_init 2 none ∈ BW := bw_of (lw_mem 9 rfl) rfl
theorem wm_Obj_init : Cond.instanceMethod ⟨"java/lang/Object", "<init>", "()V"⟩ ∈ BW := bw_of (lw_mem 11 (by decide +kernel)) rfl
theorem wc_Obj_init : Cond.code Lib.objectInit ⟨#[0xb1]⟩ 1 none ∈ BW := bw_of (lw_mem 12 rfl) rfl
theorem wl_PF_7 : Cond.classLink "PartsFlow" 7 "PartsFlow$Variables" ∈ BW := bw_of (lw_mem 13 (by decide +kernel)) rfl
theorem wt_PV : Cond.instantiable "PartsFlow$Variables" 4 ∈ BW := bw_of (lw_mem 14 (by decide +kernel)) rfl
theorem wm_PV_init : Cond.instanceMethod ⟨"PartsFlow$Variables", "<init>", "()V"⟩ ∈ BW := bw_of (lw_mem 16 (by decide +kernel)) rfl
theorem wc_PV_init : Cond.code y_PV_init b_PV_init 1 none ∈ BW := bw_of (lw_mem 17 rfl) rfl
theorem wa_int : Cond.arrayClass .int ∈ BW := bw_of (lw_mem 36 (by decide +kernel)) rfl
theorem wa_boolean : Cond.arrayClass .boolean ∈ BW := bw_of (lw_mem 37 (by decide +kernel)) rfl
theorem wl_PF_36 : Cond.classLink "PartsFlow" 36 "PartsFlow$Parts" ∈ BW := bw_of (lw_mem 38 (by decide +kernel)) rfl
theorem wt_PP : Cond.instantiable "PartsFlow$Parts" 1 ∈ BW := bw_of (lw_mem 40 (by decide +kernel)) rfl
theorem wm_PP_init : Cond.instanceMethod ⟨"PartsFlow$Parts", "<init>", "()V"⟩ ∈ BW := bw_of (lw_mem 42 (by decide +kernel)) rfl
theorem wc_PP_init : Cond.code y_PP_init b_PP_init 1 none ∈ BW := bw_of (lw_mem 43 rfl) rfl
theorem wa_byte : Cond.arrayClass .byte ∈ BW := bw_of (lw_mem 49 (by decide +kernel)) rfl
theorem wa_long : Cond.arrayClass .long ∈ BW := bw_of (lw_mem 50 (by decide +kernel)) rfl
theorem wm_PF_variable : Cond.instanceMethod ⟨"PartsFlow", "variable", "(IZZ)I"⟩ ∈ BW := bw_of (lw_mem 98 (by decide +kernel)) rfl
theorem ws_PF_variable : Cond.selects "PartsFlow" ⟨"PartsFlow", "variable", "(IZZ)I"⟩ ⟨"PartsFlow", "variable", "(IZZ)I"⟩ ∈ BW := bw_of (lw_mem 99 (by decide +kernel)) rfl
theorem wc_PF_variable : Cond.code y_PF_variable b_PF_variable 5 (some .int) ∈ BW := bw_of (lw_mem 100 rfl) rfl
theorem wm_PV_add : Cond.instanceMethod ⟨"PartsFlow$Variables", "add", "(IZZ)I"⟩ ∈ BW := bw_of (lw_mem 102 (by decide +kernel)) rfl
theorem ws_PV_add : Cond.selects "PartsFlow$Variables" ⟨"PartsFlow$Variables", "add", "(IZZ)I"⟩ ⟨"PartsFlow$Variables", "add", "(IZZ)I"⟩ ∈ BW := bw_of (lw_mem 103 (by decide +kernel)) rfl
theorem wc_PV_add : Cond.code y_PV_add b_PV_add 4 (some .int) ∈ BW := bw_of (lw_mem 104 rfl) rfl
theorem wm_PF_point : Cond.instanceMethod ⟨"PartsFlow", "point", "(IIII)I"⟩ ∈ BW := bw_of (lw_mem 106 (by decide +kernel)) rfl
theorem ws_PF_point : Cond.selects "PartsFlow" ⟨"PartsFlow", "point", "(IIII)I"⟩ ⟨"PartsFlow", "point", "(IIII)I"⟩ ∈ BW := bw_of (lw_mem 107 (by decide +kernel)) rfl
theorem wc_PF_point : Cond.code y_PF_point b_PF_point 6 (some .int) ∈ BW := bw_of (lw_mem 108 rfl) rfl
theorem wm_PF_may : Cond.instanceMethod ⟨"PartsFlow", "may", "(IIII)Z"⟩ ∈ BW := bw_of (lw_mem 111 (by decide +kernel)) rfl
theorem wc_PF_may : Cond.code y_PF_may b_PF_may 5 (some .boolean) ∈ BW := bw_of (lw_mem 112 rfl) rfl
theorem wm_PV_is : Cond.instanceMethod ⟨"PartsFlow$Variables", "is", "(I)Z"⟩ ∈ BW := bw_of (lw_mem 114 (by decide +kernel)) rfl
theorem ws_PV_is : Cond.selects "PartsFlow$Variables" ⟨"PartsFlow$Variables", "is", "(I)Z"⟩ ⟨"PartsFlow$Variables", "is", "(I)Z"⟩ ∈ BW := bw_of (lw_mem 115 (by decide +kernel)) rfl
theorem wc_PV_is : Cond.code y_PV_is b_PV_is 2 (some .boolean) ∈ BW := bw_of (lw_mem 116 rfl) rfl
theorem wm_PV_parts : Cond.instanceMethod ⟨"PartsFlow$Variables", "parts", "(I)I"⟩ ∈ BW := bw_of (lw_mem 118 (by decide +kernel)) rfl
theorem ws_PV_parts : Cond.selects "PartsFlow$Variables" ⟨"PartsFlow$Variables", "parts", "(I)I"⟩ ⟨"PartsFlow$Variables", "parts", "(I)I"⟩ ∈ BW := bw_of (lw_mem 119 (by decide +kernel)) rfl
theorem wc_PV_parts : Cond.code y_PV_parts b_PV_parts 2 (some .int) ∈ BW := bw_of (lw_mem 120 rfl) rfl
theorem wm_PF_next : Cond.instanceMethod ⟨"PartsFlow", "next", "(III)Z"⟩ ∈ BW := bw_of (lw_mem 122 (by decide +kernel)) rfl
theorem ws_PF_next : Cond.selects "PartsFlow" ⟨"PartsFlow", "next", "(III)Z"⟩ ⟨"PartsFlow", "next", "(III)Z"⟩ ∈ BW := bw_of (lw_mem 123 (by decide +kernel)) rfl
theorem wc_PF_next : Cond.code y_PF_next b_PF_next 4 (some .boolean) ∈ BW := bw_of (lw_mem 124 rfl) rfl
theorem wm_PF_isPoint : Cond.instanceMethod ⟨"PartsFlow", "isPoint", "(I)Z"⟩ ∈ BW := bw_of (lw_mem 127 (by decide +kernel)) rfl
theorem wc_PF_isPoint : Cond.code y_PF_isPoint b_PF_isPoint 2 (some .boolean) ∈ BW := bw_of (lw_mem 128 rfl) rfl
theorem wm_PF_isReached : Cond.instanceMethod ⟨"PartsFlow", "isReached", "(I)Z"⟩ ∈ BW := bw_of (lw_mem 130 (by decide +kernel)) rfl
theorem ws_PF_isReached : Cond.selects "PartsFlow" ⟨"PartsFlow", "isReached", "(I)Z"⟩ ⟨"PartsFlow", "isReached", "(I)Z"⟩ ∈ BW := bw_of (lw_mem 131 (by decide +kernel)) rfl
theorem wc_PF_isReached : Cond.code y_PF_isReached b_PF_isReached 2 (some .boolean) ∈ BW := bw_of (lw_mem 132 rfl) rfl
theorem wm_PF_know : Cond.instanceMethod ⟨"PartsFlow", "know", "()V"⟩ ∈ BW := bw_of (lw_mem 135 (by decide +kernel)) rfl
theorem wc_PF_know : Cond.code y_PF_know b_PF_know 2 none ∈ BW := bw_of (lw_mem 136 rfl) rfl
theorem wm_PP_clear : Cond.instanceMethod ⟨"PartsFlow$Parts", "clear", "()V"⟩ ∈ BW := bw_of (lw_mem 138 (by decide +kernel)) rfl
theorem ws_PP_clear : Cond.selects "PartsFlow$Parts" ⟨"PartsFlow$Parts", "clear", "()V"⟩ ⟨"PartsFlow$Parts", "clear", "()V"⟩ ∈ BW := bw_of (lw_mem 139 (by decide +kernel)) rfl
theorem wc_PP_clear : Cond.code y_PP_clear b_PP_clear 2 none ∈ BW := bw_of (lw_mem 140 rfl) rfl
theorem wm_PP_set : Cond.instanceMethod ⟨"PartsFlow$Parts", "set", "(IIZ)V"⟩ ∈ BW := bw_of (lw_mem 142 (by decide +kernel)) rfl
theorem ws_PP_set : Cond.selects "PartsFlow$Parts" ⟨"PartsFlow$Parts", "set", "(IIZ)V"⟩ ⟨"PartsFlow$Parts", "set", "(IIZ)V"⟩ ∈ BW := bw_of (lw_mem 143 (by decide +kernel)) rfl
theorem wc_PP_set : Cond.code y_PP_set b_PP_set 5 none ∈ BW := bw_of (lw_mem 144 rfl) rfl
theorem wk_PP_13 : Cond.constantLong "PartsFlow$Parts" 13 (-1) ∈ BW := bw_of (lw_mem 145 (by decide +kernel)) rfl
theorem wm_PF_come : Cond.instanceMethod ⟨"PartsFlow", "come", "(I)V"⟩ ∈ BW := bw_of (lw_mem 148 (by decide +kernel)) rfl
theorem wc_PF_come : Cond.code y_PF_come b_PF_come 2 none ∈ BW := bw_of (lw_mem 149 rfl) rfl
theorem wm_PP_addAll : Cond.instanceMethod ⟨"PartsFlow$Parts", "addAll", "(LPartsFlow$Parts;)Z"⟩ ∈ BW := bw_of (lw_mem 151 (by decide +kernel)) rfl
theorem ws_PP_addAll : Cond.selects "PartsFlow$Parts" ⟨"PartsFlow$Parts", "addAll", "(LPartsFlow$Parts;)Z"⟩ ⟨"PartsFlow$Parts", "addAll", "(LPartsFlow$Parts;)Z"⟩ ∈ BW := bw_of (lw_mem 152 (by decide +kernel)) rfl
theorem wc_PP_addAll : Cond.code y_PP_addAll b_PP_addAll 4 (some .boolean) ∈ BW := bw_of (lw_mem 153 rfl) rfl
theorem wm_PF_pass : Cond.instanceMethod ⟨"PartsFlow", "pass", "(I)V"⟩ ∈ BW := bw_of (lw_mem 156 (by decide +kernel)) rfl
theorem wc_PF_pass : Cond.code y_PF_pass b_PF_pass 3 none ∈ BW := bw_of (lw_mem 157 rfl) rfl
theorem wm_PP_copy : Cond.instanceMethod ⟨"PartsFlow$Parts", "copy", "(LPartsFlow$Parts;)V"⟩ ∈ BW := bw_of (lw_mem 159 (by decide +kernel)) rfl
theorem ws_PP_copy : Cond.selects "PartsFlow$Parts" ⟨"PartsFlow$Parts", "copy", "(LPartsFlow$Parts;)V"⟩ ⟨"PartsFlow$Parts", "copy", "(LPartsFlow$Parts;)V"⟩ ∈ BW := bw_of (lw_mem 160 (by decide +kernel)) rfl
theorem wc_PP_copy : Cond.code y_PP_copy b_PP_copy 3 none ∈ BW := bw_of (lw_mem 161 rfl) rfl
theorem wm_PF_without : Cond.instanceMethod ⟨"PartsFlow", "without", "(II)I"⟩ ∈ BW := bw_of (lw_mem 163 (by decide +kernel)) rfl
theorem ws_PF_without : Cond.selects "PartsFlow" ⟨"PartsFlow", "without", "(II)I"⟩ ⟨"PartsFlow", "without", "(II)I"⟩ ∈ BW := bw_of (lw_mem 164 (by decide +kernel)) rfl
theorem wc_PF_without : Cond.code y_PF_without b_PF_without 3 (some .int) ∈ BW := bw_of (lw_mem 165 rfl) rfl
theorem wm_PP_bits : Cond.instanceMethod ⟨"PartsFlow$Parts", "bits", "(II)I"⟩ ∈ BW := bw_of (lw_mem 167 (by decide +kernel)) rfl
theorem ws_PP_bits : Cond.selects "PartsFlow$Parts" ⟨"PartsFlow$Parts", "bits", "(II)I"⟩ ⟨"PartsFlow$Parts", "bits", "(II)I"⟩ ∈ BW := bw_of (lw_mem 168 (by decide +kernel)) rfl
theorem wc_PP_bits : Cond.code y_PP_bits b_PP_bits 5 (some .int) ∈ BW := bw_of (lw_mem 169 rfl) rfl
theorem wm_PF_having : Cond.instanceMethod ⟨"PartsFlow", "having", "(II)I"⟩ ∈ BW := bw_of (lw_mem 171 (by decide +kernel)) rfl
theorem ws_PF_having : Cond.selects "PartsFlow" ⟨"PartsFlow", "having", "(II)I"⟩ ⟨"PartsFlow", "having", "(II)I"⟩ ∈ BW := bw_of (lw_mem 172 (by decide +kernel)) rfl
theorem wc_PF_having : Cond.code y_PF_having b_PF_having 3 (some .int) ∈ BW := bw_of (lw_mem 173 rfl) rfl
theorem wm_PF_fault : Cond.instanceMethod ⟨"PartsFlow", "fault", "(I)I"⟩ ∈ BW := bw_of (lw_mem 175 (by decide +kernel)) rfl
theorem ws_PF_fault : Cond.selects "PartsFlow" ⟨"PartsFlow", "fault", "(I)I"⟩ ⟨"PartsFlow", "fault", "(I)I"⟩ ∈ BW := bw_of (lw_mem 176 (by decide +kernel)) rfl
theorem wc_PF_fault : Cond.code y_PF_fault b_PF_fault 4 (some .int) ∈ BW := bw_of (lw_mem 177 rfl) rfl
theorem wm_PF_count : Cond.instanceMethod ⟨"PartsFlow", "count", "(I)I"⟩ ∈ BW := bw_of (lw_mem 179 (by decide +kernel)) rfl
theorem ws_PF_count : Cond.selects "PartsFlow" ⟨"PartsFlow", "count", "(I)I"⟩ ⟨"PartsFlow", "count", "(I)I"⟩ ∈ BW := bw_of (lw_mem 180 (by decide +kernel)) rfl
theorem wc_PF_count : Cond.code y_PF_count b_PF_count 6 (some .int) ∈ BW := bw_of (lw_mem 181 rfl) rfl
theorem wm_PF_clear : Cond.instanceMethod ⟨"PartsFlow", "clear", "()I"⟩ ∈ BW := bw_of (lw_mem 184 (by decide +kernel)) rfl
theorem ws_PF_clear : Cond.selects "PartsFlow" ⟨"PartsFlow", "clear", "()I"⟩ ⟨"PartsFlow", "clear", "()I"⟩ ∈ BW := bw_of (lw_mem 185 (by decide +kernel)) rfl
theorem wc_PF_clear : Cond.code y_PF_clear b_PF_clear 2 (some .int) ∈ BW := bw_of (lw_mem 186 rfl) rfl
theorem wl_law_10 : Cond.classLink "PartsFlowLaw" 10 "PartsFlowModel" ∈ BW := bw_of (lw_mem 187 (by decide +kernel)) rfl
theorem wt_PM : Cond.instantiable "PartsFlowModel" 14 ∈ BW := bw_of (lw_mem 188 (by decide +kernel)) rfl
theorem wm_PM_init : Cond.instanceMethod ⟨"PartsFlowModel", "<init>", "()V"⟩ ∈ BW := bw_of (lw_mem 190 (by decide +kernel)) rfl
theorem wc_PM_init : Cond.code y_PM_init b_PM_init 1 none ∈ BW := bw_of (lw_mem 191 rfl) rfl
theorem wm_PM_variable : Cond.instanceMethod ⟨"PartsFlowModel", "variable", "(IZZ)I"⟩ ∈ BW := bw_of (lw_mem 237 (by decide +kernel)) rfl
theorem ws_PM_variable : Cond.selects "PartsFlowModel" ⟨"PartsFlowModel", "variable", "(IZZ)I"⟩ ⟨"PartsFlowModel", "variable", "(IZZ)I"⟩ ∈ BW := bw_of (lw_mem 238 (by decide +kernel)) rfl
theorem wc_PM_variable : Cond.code y_PM_variable b_PM_variable 4 (some .int) ∈ BW := bw_of (lw_mem 239 rfl) rfl
theorem wm_PM_point : Cond.instanceMethod ⟨"PartsFlowModel", "point", "(IIII)I"⟩ ∈ BW := bw_of (lw_mem 241 (by decide +kernel)) rfl
theorem ws_PM_point : Cond.selects "PartsFlowModel" ⟨"PartsFlowModel", "point", "(IIII)I"⟩ ⟨"PartsFlowModel", "point", "(IIII)I"⟩ ∈ BW := bw_of (lw_mem 242 (by decide +kernel)) rfl
theorem wc_PM_point : Cond.code y_PM_point b_PM_point 6 (some .int) ∈ BW := bw_of (lw_mem 243 rfl) rfl
theorem wm_PM_isVariable : Cond.instanceMethod ⟨"PartsFlowModel", "isVariable", "(I)Z"⟩ ∈ BW := bw_of (lw_mem 246 (by decide +kernel)) rfl
theorem wc_PM_isVariable : Cond.code y_PM_isVariable b_PM_isVariable 2 (some .boolean) ∈ BW := bw_of (lw_mem 247 rfl) rfl
theorem wm_PM_next : Cond.instanceMethod ⟨"PartsFlowModel", "next", "(III)Z"⟩ ∈ BW := bw_of (lw_mem 249 (by decide +kernel)) rfl
theorem ws_PM_next : Cond.selects "PartsFlowModel" ⟨"PartsFlowModel", "next", "(III)Z"⟩ ⟨"PartsFlowModel", "next", "(III)Z"⟩ ∈ BW := bw_of (lw_mem 250 (by decide +kernel)) rfl
theorem wc_PM_next : Cond.code y_PM_next b_PM_next 4 (some .boolean) ∈ BW := bw_of (lw_mem 251 rfl) rfl
theorem wm_PM_isPoint : Cond.instanceMethod ⟨"PartsFlowModel", "isPoint", "(I)Z"⟩ ∈ BW := bw_of (lw_mem 254 (by decide +kernel)) rfl
theorem wc_PM_isPoint : Cond.code y_PM_isPoint b_PM_isPoint 2 (some .boolean) ∈ BW := bw_of (lw_mem 255 rfl) rfl
theorem wm_PM_isReached : Cond.instanceMethod ⟨"PartsFlowModel", "isReached", "(I)Z"⟩ ∈ BW := bw_of (lw_mem 257 (by decide +kernel)) rfl
theorem ws_PM_isReached : Cond.selects "PartsFlowModel" ⟨"PartsFlowModel", "isReached", "(I)Z"⟩ ⟨"PartsFlowModel", "isReached", "(I)Z"⟩ ∈ BW := bw_of (lw_mem 258 (by decide +kernel)) rfl
theorem wc_PM_isReached : Cond.code y_PM_isReached b_PM_isReached 2 (some .boolean) ∈ BW := bw_of (lw_mem 259 rfl) rfl
theorem wm_PM_go : Cond.instanceMethod ⟨"PartsFlowModel", "go", "(II)V"⟩ ∈ BW := bw_of (lw_mem 262 (by decide +kernel)) rfl
theorem wc_PM_go : Cond.code y_PM_go b_PM_go 7 none ∈ BW := bw_of (lw_mem 263 rfl) rfl
theorem wm_PM_come : Cond.instanceMethod ⟨"PartsFlowModel", "come", "(II)V"⟩ ∈ BW := bw_of (lw_mem 266 (by decide +kernel)) rfl
theorem wc_PM_come : Cond.code y_PM_come b_PM_come 3 none ∈ BW := bw_of (lw_mem 267 rfl) rfl
theorem wm_PM_without : Cond.instanceMethod ⟨"PartsFlowModel", "without", "(II)I"⟩ ∈ BW := bw_of (lw_mem 269 (by decide +kernel)) rfl
theorem ws_PM_without : Cond.selects "PartsFlowModel" ⟨"PartsFlowModel", "without", "(II)I"⟩ ⟨"PartsFlowModel", "without", "(II)I"⟩ ∈ BW := bw_of (lw_mem 270 (by decide +kernel)) rfl
theorem wc_PM_without : Cond.code y_PM_without b_PM_without 3 (some .int) ∈ BW := bw_of (lw_mem 271 rfl) rfl
theorem wm_PM_bits : Cond.instanceMethod ⟨"PartsFlowModel", "bits", "(III)I"⟩ ∈ BW := bw_of (lw_mem 274 (by decide +kernel)) rfl
theorem wc_PM_bits : Cond.code y_PM_bits b_PM_bits 6 (some .int) ∈ BW := bw_of (lw_mem 275 rfl) rfl
theorem wm_PM_having : Cond.instanceMethod ⟨"PartsFlowModel", "having", "(II)I"⟩ ∈ BW := bw_of (lw_mem 277 (by decide +kernel)) rfl
theorem ws_PM_having : Cond.selects "PartsFlowModel" ⟨"PartsFlowModel", "having", "(II)I"⟩ ⟨"PartsFlowModel", "having", "(II)I"⟩ ∈ BW := bw_of (lw_mem 278 (by decide +kernel)) rfl
theorem wc_PM_having : Cond.code y_PM_having b_PM_having 3 (some .int) ∈ BW := bw_of (lw_mem 279 rfl) rfl
theorem wm_PM_fault : Cond.instanceMethod ⟨"PartsFlowModel", "fault", "(I)I"⟩ ∈ BW := bw_of (lw_mem 281 (by decide +kernel)) rfl
theorem ws_PM_fault : Cond.selects "PartsFlowModel" ⟨"PartsFlowModel", "fault", "(I)I"⟩ ⟨"PartsFlowModel", "fault", "(I)I"⟩ ∈ BW := bw_of (lw_mem 282 (by decide +kernel)) rfl
theorem wc_PM_fault : Cond.code y_PM_fault b_PM_fault 5 (some .int) ∈ BW := bw_of (lw_mem 283 rfl) rfl
theorem wm_PM_count : Cond.instanceMethod ⟨"PartsFlowModel", "count", "(I)I"⟩ ∈ BW := bw_of (lw_mem 288 (by decide +kernel)) rfl
theorem ws_PM_count : Cond.selects "PartsFlowModel" ⟨"PartsFlowModel", "count", "(I)I"⟩ ⟨"PartsFlowModel", "count", "(I)I"⟩ ∈ BW := bw_of (lw_mem 289 (by decide +kernel)) rfl
theorem wc_PM_count : Cond.code y_PM_count b_PM_count 8 (some .int) ∈ BW := bw_of (lw_mem 290 rfl) rfl
theorem wm_PM_clear : Cond.instanceMethod ⟨"PartsFlowModel", "clear", "()I"⟩ ∈ BW := bw_of (lw_mem 293 (by decide +kernel)) rfl
theorem ws_PM_clear : Cond.selects "PartsFlowModel" ⟨"PartsFlowModel", "clear", "()I"⟩ ⟨"PartsFlowModel", "clear", "()I"⟩ ∈ BW := bw_of (lw_mem 294 (by decide +kernel)) rfl
theorem wc_PM_clear : Cond.code y_PM_clear b_PM_clear 2 (some .int) ∈ BW := bw_of (lw_mem 295 rfl) rfl
theorem ws_PF_may : Cond.selects "PartsFlow" ⟨"PartsFlow", "may", "(IIII)Z"⟩ ⟨"PartsFlow", "may", "(IIII)Z"⟩ ∈ BW := bw_of (lw_memP 0 (q := (⟨"PartsFlow", "may", "(IIII)Z"⟩, 15)) rfl) rfl
theorem ws_PF_isPoint : Cond.selects "PartsFlow" ⟨"PartsFlow", "isPoint", "(I)Z"⟩ ⟨"PartsFlow", "isPoint", "(I)Z"⟩ ∈ BW := bw_of (lw_memP 1 (q := (⟨"PartsFlow", "isPoint", "(I)Z"⟩, 15)) rfl) rfl
theorem ws_PF_know : Cond.selects "PartsFlow" ⟨"PartsFlow", "know", "()V"⟩ ⟨"PartsFlow", "know", "()V"⟩ ∈ BW := bw_of (lw_memP 2 (q := (⟨"PartsFlow", "know", "()V"⟩, 15)) rfl) rfl
theorem ws_PF_come : Cond.selects "PartsFlow" ⟨"PartsFlow", "come", "(I)V"⟩ ⟨"PartsFlow", "come", "(I)V"⟩ ∈ BW := bw_of (lw_memP 3 (q := (⟨"PartsFlow", "come", "(I)V"⟩, 15)) rfl) rfl
theorem ws_PF_pass : Cond.selects "PartsFlow" ⟨"PartsFlow", "pass", "(I)V"⟩ ⟨"PartsFlow", "pass", "(I)V"⟩ ∈ BW := bw_of (lw_memP 4 (q := (⟨"PartsFlow", "pass", "(I)V"⟩, 15)) rfl) rfl
theorem ws_PM_isVariable : Cond.selects "PartsFlowModel" ⟨"PartsFlowModel", "isVariable", "(I)Z"⟩ ⟨"PartsFlowModel", "isVariable", "(I)Z"⟩ ∈ BW := bw_of (lw_memP 5 (q := (⟨"PartsFlowModel", "isVariable", "(I)Z"⟩, 14)) rfl) rfl
theorem ws_PM_isPoint : Cond.selects "PartsFlowModel" ⟨"PartsFlowModel", "isPoint", "(I)Z"⟩ ⟨"PartsFlowModel", "isPoint", "(I)Z"⟩ ∈ BW := bw_of (lw_memP 6 (q := (⟨"PartsFlowModel", "isPoint", "(I)Z"⟩, 14)) rfl) rfl
theorem ws_PM_go : Cond.selects "PartsFlowModel" ⟨"PartsFlowModel", "go", "(II)V"⟩ ⟨"PartsFlowModel", "go", "(II)V"⟩ ∈ BW := bw_of (lw_memP 7 (q := (⟨"PartsFlowModel", "go", "(II)V"⟩, 14)) rfl) rfl
theorem ws_PM_come : Cond.selects "PartsFlowModel" ⟨"PartsFlowModel", "come", "(II)V"⟩ ⟨"PartsFlowModel", "come", "(II)V"⟩ ∈ BW := bw_of (lw_memP 8 (q := (⟨"PartsFlowModel", "come", "(II)V"⟩, 14)) rfl) rfl
theorem ws_PM_bits : Cond.selects "PartsFlowModel" ⟨"PartsFlowModel", "bits", "(III)I"⟩ ⟨"PartsFlowModel", "bits", "(III)I"⟩ ∈ BW := bw_of (lw_memP 9 (q := (⟨"PartsFlowModel", "bits", "(III)I"⟩, 14)) rfl) rfl
theorem ml_law_9 : Cond.methodLink "PartsFlowLaw" 9 ⟨"PartsFlow", "<init>", "()V"⟩ ∈ BW := bw_of (lw_mem 7 (by decide +kernel)) rfl
theorem ml_PF_1 : Cond.methodLink "PartsFlow" 1 ⟨"java/lang/Object", "<init>", "()V"⟩ ∈ BW := bw_of (lw_mem 10 (by decide +kernel)) rfl
theorem ml_PV_1 : Cond.methodLink "PartsFlow$Variables" 1 ⟨"java/lang/Object", "<init>", "()V"⟩ ∈ BW := bw_of (lw_mem 18 (by decide +kernel)) rfl
theorem fl_PV_9 : Fld R_PV 9 1 0 (R_PV, F_PV, 4) t_PV := ⟨rfl, by decide, bw_of (lw_mem 19 (by decide +kernel)) rfl, rfl, in_PV, t_PV_ok, n_PV⟩
theorem fl_PV_13 : Fld R_PV 13 1 1 (R_PV, F_PV, 4) t_PV := ⟨rfl, by decide, bw_of (lw_mem 21 (by decide +kernel)) rfl, rfl, in_PV, t_PV_ok, n_PV⟩
theorem fl_PV_17 : Fld R_PV 17 1 2 (R_PV, F_PV, 4) t_PV := ⟨rfl, by decide, bw_of (lw_mem 23 (by decide +kernel)) rfl, rfl, in_PV, t_PV_ok, n_PV⟩
theorem fl_PV_20 : Fld R_PV 20 1 3 (R_PV, F_PV, 4) t_PV := ⟨rfl, by decide, bw_of (lw_mem 25 (by decide +kernel)) rfl, rfl, in_PV, t_PV_ok, n_PV⟩
theorem ml_PP_1 : Cond.methodLink "PartsFlow$Parts" 1 ⟨"java/lang/Object", "<init>", "()V"⟩ ∈ BW := bw_of (lw_mem 44 (by decide +kernel)) rfl
theorem fl_PP_9 : Fld R_PP 9 2 0 (R_PP, F_PP, 1) t_PP := ⟨rfl, by decide, bw_of (lw_mem 45 (by decide +kernel)) rfl, rfl, in_PP, t_PP_ok, n_PP⟩
theorem fl_PF_10 : Fld R_PF 10 0 0 (R_PF, F_PF, 15) t_PF := ⟨rfl, by decide, bw_of (lw_mem 51 (by decide +kernel)) rfl, rfl, in_PF, t_PF_ok, n_PF⟩
theorem fl_PF_16 : Fld R_PF 16 0 1 (R_PF, F_PF, 15) t_PF := ⟨rfl, by decide, bw_of (lw_mem 52 (by decide +kernel)) rfl, rfl, in_PF, t_PF_ok, n_PF⟩
theorem fl_PF_20 : Fld R_PF 20 0 2 (R_PF, F_PF, 15) t_PF := ⟨rfl, by decide, bw_of (lw_mem 53 (by decide +kernel)) rfl, rfl, in_PF, t_PF_ok, n_PF⟩
theorem fl_PF_24 : Fld R_PF 24 0 3 (R_PF, F_PF, 15) t_PF := ⟨rfl, by decide, bw_of (lw_mem 54 (by decide +kernel)) rfl, rfl, in_PF, t_PF_ok, n_PF⟩
theorem fl_PF_27 : Fld R_PF 27 0 4 (R_PF, F_PF, 15) t_PF := ⟨rfl, by decide, bw_of (lw_mem 55 (by decide +kernel)) rfl, rfl, in_PF, t_PF_ok, n_PF⟩
theorem fl_PF_30 : Fld R_PF 30 0 5 (R_PF, F_PF, 15) t_PF := ⟨rfl, by decide, bw_of (lw_mem 56 (by decide +kernel)) rfl, rfl, in_PF, t_PF_ok, n_PF⟩
theorem fl_PF_33 : Fld R_PF 33 0 6 (R_PF, F_PF, 15) t_PF := ⟨rfl, by decide, bw_of (lw_mem 57 (by decide +kernel)) rfl, rfl, in_PF, t_PF_ok, n_PF⟩
theorem fl_PF_76 : Fld R_PF 76 0 7 (R_PF, F_PF, 15) t_PF := ⟨rfl, by decide, bw_of (lw_mem 58 (by decide +kernel)) rfl, rfl, in_PF, t_PF_ok, n_PF⟩
theorem fl_PF_38 : Fld R_PF 38 0 8 (R_PF, F_PF, 15) t_PF := ⟨rfl, by decide, bw_of (lw_mem 59 (by decide +kernel)) rfl, rfl, in_PF, t_PF_ok, n_PF⟩
theorem fl_PF_42 : Fld R_PF 42 0 9 (R_PF, F_PF, 15) t_PF := ⟨rfl, by decide, bw_of (lw_mem 60 (by decide +kernel)) rfl, rfl, in_PF, t_PF_ok, n_PF⟩
theorem fl_PF_45 : Fld R_PF 45 0 10 (R_PF, F_PF, 15) t_PF := ⟨rfl, by decide, bw_of (lw_mem 61 (by decide +kernel)) rfl, rfl, in_PF, t_PF_ok, n_PF⟩
theorem fl_PF_50 : Fld R_PF 50 0 11 (R_PF, F_PF, 15) t_PF := ⟨rfl, by decide, bw_of (lw_mem 62 (by decide +kernel)) rfl, rfl, in_PF, t_PF_ok, n_PF⟩
theorem fl_PF_54 : Fld R_PF 54 0 12 (R_PF, F_PF, 15) t_PF := ⟨rfl, by decide, bw_of (lw_mem 63 (by decide +kernel)) rfl, rfl, in_PF, t_PF_ok, n_PF⟩
theorem fl_PF_61 : Fld R_PF 61 0 13 (R_PF, F_PF, 15) t_PF := ⟨rfl, by decide, bw_of (lw_mem 64 (by decide +kernel)) rfl, rfl, in_PF, t_PF_ok, n_PF⟩
theorem fl_PF_83 : Fld R_PF 83 0 14 (R_PF, F_PF, 15) t_PF := ⟨rfl, by decide, bw_of (lw_mem 65 (by decide +kernel)) rfl, rfl, in_PF, t_PF_ok, n_PF⟩
theorem cv_law_13 : Cvd "PartsFlowLaw" 13 "PartsFlow" y_PF_variable b_PF_variable 5 (some .int) 3 := cvd_of (bw_of (lw_mem 97 (by decide +kernel)) rfl) wm_PF_variable ws_PF_variable wi_PF wc_PF_variable (by decide +kernel)
theorem cv_PF_57 : Cvd "PartsFlow" 57 "PartsFlow$Variables" y_PV_add b_PV_add 4 (some .int) 3 := cvd_of (bw_of (lw_mem 101 (by decide +kernel)) rfl) wm_PV_add ws_PV_add wi_PV wc_PV_add (by decide +kernel)
theorem cv_law_18 : Cvd "PartsFlowLaw" 18 "PartsFlow" y_PF_point b_PF_point 6 (some .int) 4 := cvd_of (bw_of (lw_mem 105 (by decide +kernel)) rfl) wm_PF_point ws_PF_point wi_PF wc_PF_point (by decide +kernel)
theorem cv_PF_72 : Cvd "PartsFlow" 72 "PartsFlow" y_PF_may b_PF_may 5 (some .boolean) 4 := cvd_of (bw_of (lw_mem 109 (by decide +kernel)) rfl) wm_PF_may ws_PF_may wi_PF wc_PF_may (by decide +kernel)
theorem cv_PF_65 : Cvd "PartsFlow" 65 "PartsFlow$Variables" y_PV_is b_PV_is 2 (some .boolean) 1 := cvd_of (bw_of (lw_mem 113 (by decide +kernel)) rfl) wm_PV_is ws_PV_is wi_PV wc_PV_is (by decide +kernel)
theorem cv_PF_69 : Cvd "PartsFlow" 69 "PartsFlow$Variables" y_PV_parts b_PV_parts 2 (some .int) 1 := cvd_of (bw_of (lw_mem 117 (by decide +kernel)) rfl) wm_PV_parts ws_PV_parts wi_PV wc_PV_parts (by decide +kernel)
theorem cv_law_23 : Cvd "PartsFlowLaw" 23 "PartsFlow" y_PF_next b_PF_next 4 (some .boolean) 3 := cvd_of (bw_of (lw_mem 121 (by decide +kernel)) rfl) wm_PF_next ws_PF_next wi_PF wc_PF_next (by decide +kernel)
theorem cv_PF_80 : Cvd "PartsFlow" 80 "PartsFlow" y_PF_isPoint b_PF_isPoint 2 (some .boolean) 1 := cvd_of (bw_of (lw_mem 125 (by decide +kernel)) rfl) wm_PF_isPoint ws_PF_isPoint wi_PF wc_PF_isPoint (by decide +kernel)
theorem cv_law_28 : Cvd "PartsFlowLaw" 28 "PartsFlow" y_PF_isReached b_PF_isReached 2 (some .boolean) 1 := cvd_of (bw_of (lw_mem 129 (by decide +kernel)) rfl) wm_PF_isReached ws_PF_isReached wi_PF wc_PF_isReached (by decide +kernel)
theorem cv_PF_113 : Cvd "PartsFlow" 113 "PartsFlow" y_PF_know b_PF_know 2 none 0 := cvd_of (bw_of (lw_mem 133 (by decide +kernel)) rfl) wm_PF_know ws_PF_know wi_PF wc_PF_know (by decide +kernel)
theorem cv_PF_99 : Cvd "PartsFlow" 99 "PartsFlow$Parts" y_PP_clear b_PP_clear 2 none 0 := cvd_of (bw_of (lw_mem 137 (by decide +kernel)) rfl) wm_PP_clear ws_PP_clear wi_PP wc_PP_clear (by decide +kernel)
theorem cv_PF_95 : Cvd "PartsFlow" 95 "PartsFlow$Parts" y_PP_set b_PP_set 5 none 3 := cvd_of (bw_of (lw_mem 141 (by decide +kernel)) rfl) wm_PP_set ws_PP_set wi_PP wc_PP_set (by decide +kernel)
theorem cv_PF_106 : Cvd "PartsFlow" 106 "PartsFlow" y_PF_come b_PF_come 2 none 1 := cvd_of (bw_of (lw_mem 146 (by decide +kernel)) rfl) wm_PF_come ws_PF_come wi_PF wc_PF_come (by decide +kernel)
theorem cv_PF_86 : Cvd "PartsFlow" 86 "PartsFlow$Parts" y_PP_addAll b_PP_addAll 4 (some .boolean) 1 := cvd_of (bw_of (lw_mem 150 (by decide +kernel)) rfl) wm_PP_addAll ws_PP_addAll wi_PP wc_PP_addAll (by decide +kernel)
theorem cv_PF_110 : Cvd "PartsFlow" 110 "PartsFlow" y_PF_pass b_PF_pass 3 none 1 := cvd_of (bw_of (lw_mem 154 (by decide +kernel)) rfl) wm_PF_pass ws_PF_pass wi_PF wc_PF_pass (by decide +kernel)
theorem cv_PF_90 : Cvd "PartsFlow" 90 "PartsFlow$Parts" y_PP_copy b_PP_copy 3 none 1 := cvd_of (bw_of (lw_mem 158 (by decide +kernel)) rfl) wm_PP_copy ws_PP_copy wi_PP wc_PP_copy (by decide +kernel)
theorem cv_law_33 : Cvd "PartsFlowLaw" 33 "PartsFlow" y_PF_without b_PF_without 3 (some .int) 2 := cvd_of (bw_of (lw_mem 162 (by decide +kernel)) rfl) wm_PF_without ws_PF_without wi_PF wc_PF_without (by decide +kernel)
theorem cv_PF_116 : Cvd "PartsFlow" 116 "PartsFlow$Parts" y_PP_bits b_PP_bits 5 (some .int) 2 := cvd_of (bw_of (lw_mem 166 (by decide +kernel)) rfl) wm_PP_bits ws_PP_bits wi_PP wc_PP_bits (by decide +kernel)
theorem cv_law_38 : Cvd "PartsFlowLaw" 38 "PartsFlow" y_PF_having b_PF_having 3 (some .int) 2 := cvd_of (bw_of (lw_mem 170 (by decide +kernel)) rfl) wm_PF_having ws_PF_having wi_PF wc_PF_having (by decide +kernel)
theorem cv_law_42 : Cvd "PartsFlowLaw" 42 "PartsFlow" y_PF_fault b_PF_fault 4 (some .int) 1 := cvd_of (bw_of (lw_mem 174 (by decide +kernel)) rfl) wm_PF_fault ws_PF_fault wi_PF wc_PF_fault (by decide +kernel)
theorem cv_law_47 : Cvd "PartsFlowLaw" 47 "PartsFlow" y_PF_count b_PF_count 6 (some .int) 1 := cvd_of (bw_of (lw_mem 178 (by decide +kernel)) rfl) wm_PF_count ws_PF_count wi_PF wc_PF_count (by decide +kernel)
theorem cv_PF_123 : Cvd "PartsFlow" 123 "PartsFlow" y_PF_fault b_PF_fault 4 (some .int) 1 := cvd_of (bw_of (lw_mem 182 (by decide +kernel)) rfl) wm_PF_fault ws_PF_fault wi_PF wc_PF_fault (by decide +kernel)
theorem cv_law_51 : Cvd "PartsFlowLaw" 51 "PartsFlow" y_PF_clear b_PF_clear 2 (some .int) 0 := cvd_of (bw_of (lw_mem 183 (by decide +kernel)) rfl) wm_PF_clear ws_PF_clear wi_PF wc_PF_clear (by decide +kernel)
theorem ml_law_12 : Cond.methodLink "PartsFlowLaw" 12 ⟨"PartsFlowModel", "<init>", "()V"⟩ ∈ BW := bw_of (lw_mem 189 (by decide +kernel)) rfl
theorem ml_PM_1 : Cond.methodLink "PartsFlowModel" 1 ⟨"java/lang/Object", "<init>", "()V"⟩ ∈ BW := bw_of (lw_mem 192 (by decide +kernel)) rfl
theorem fl_PM_44 : Fld R_PM 44 3 0 (R_PM, F_PM, 14) t_PM := ⟨rfl, by decide, bw_of (lw_mem 193 (by decide +kernel)) rfl, rfl, in_PM, t_PM_ok, n_PM⟩
theorem fl_PM_7 : Fld R_PM 7 3 1 (R_PM, F_PM, 14) t_PM := ⟨rfl, by decide, bw_of (lw_mem 194 (by decide +kernel)) rfl, rfl, in_PM, t_PM_ok, n_PM⟩
theorem fl_PM_13 : Fld R_PM 13 3 2 (R_PM, F_PM, 14) t_PM := ⟨rfl, by decide, bw_of (lw_mem 195 (by decide +kernel)) rfl, rfl, in_PM, t_PM_ok, n_PM⟩
theorem fl_PM_17 : Fld R_PM 17 3 3 (R_PM, F_PM, 14) t_PM := ⟨rfl, by decide, bw_of (lw_mem 196 (by decide +kernel)) rfl, rfl, in_PM, t_PM_ok, n_PM⟩
theorem fl_PM_48 : Fld R_PM 48 3 4 (R_PM, F_PM, 14) t_PM := ⟨rfl, by decide, bw_of (lw_mem 197 (by decide +kernel)) rfl, rfl, in_PM, t_PM_ok, n_PM⟩
theorem fl_PM_20 : Fld R_PM 20 3 5 (R_PM, F_PM, 14) t_PM := ⟨rfl, by decide, bw_of (lw_mem 198 (by decide +kernel)) rfl, rfl, in_PM, t_PM_ok, n_PM⟩
theorem fl_PM_23 : Fld R_PM 23 3 6 (R_PM, F_PM, 14) t_PM := ⟨rfl, by decide, bw_of (lw_mem 199 (by decide +kernel)) rfl, rfl, in_PM, t_PM_ok, n_PM⟩
theorem fl_PM_26 : Fld R_PM 26 3 7 (R_PM, F_PM, 14) t_PM := ⟨rfl, by decide, bw_of (lw_mem 200 (by decide +kernel)) rfl, rfl, in_PM, t_PM_ok, n_PM⟩
theorem fl_PM_29 : Fld R_PM 29 3 8 (R_PM, F_PM, 14) t_PM := ⟨rfl, by decide, bw_of (lw_mem 201 (by decide +kernel)) rfl, rfl, in_PM, t_PM_ok, n_PM⟩
theorem fl_PM_32 : Fld R_PM 32 3 9 (R_PM, F_PM, 14) t_PM := ⟨rfl, by decide, bw_of (lw_mem 202 (by decide +kernel)) rfl, rfl, in_PM, t_PM_ok, n_PM⟩
theorem fl_PM_35 : Fld R_PM 35 3 10 (R_PM, F_PM, 14) t_PM := ⟨rfl, by decide, bw_of (lw_mem 203 (by decide +kernel)) rfl, rfl, in_PM, t_PM_ok, n_PM⟩
theorem fl_PM_38 : Fld R_PM 38 3 11 (R_PM, F_PM, 14) t_PM := ⟨rfl, by decide, bw_of (lw_mem 204 (by decide +kernel)) rfl, rfl, in_PM, t_PM_ok, n_PM⟩
theorem fl_PM_41 : Fld R_PM 41 3 12 (R_PM, F_PM, 14) t_PM := ⟨rfl, by decide, bw_of (lw_mem 205 (by decide +kernel)) rfl, rfl, in_PM, t_PM_ok, n_PM⟩
theorem fl_PM_58 : Fld R_PM 58 3 13 (R_PM, F_PM, 14) t_PM := ⟨rfl, by decide, bw_of (lw_mem 206 (by decide +kernel)) rfl, rfl, in_PM, t_PM_ok, n_PM⟩
theorem cv_law_17 : Cvd "PartsFlowLaw" 17 "PartsFlowModel" y_PM_variable b_PM_variable 4 (some .int) 3 := cvd_of (bw_of (lw_mem 236 (by decide +kernel)) rfl) wm_PM_variable ws_PM_variable wi_PM wc_PM_variable (by decide +kernel)
theorem cv_law_22 : Cvd "PartsFlowLaw" 22 "PartsFlowModel" y_PM_point b_PM_point 6 (some .int) 4 := cvd_of (bw_of (lw_mem 240 (by decide +kernel)) rfl) wm_PM_point ws_PM_point wi_PM wc_PM_point (by decide +kernel)
theorem cv_PM_51 : Cvd "PartsFlowModel" 51 "PartsFlowModel" y_PM_isVariable b_PM_isVariable 2 (some .boolean) 1 := cvd_of (bw_of (lw_mem 244 (by decide +kernel)) rfl) wm_PM_isVariable ws_PM_isVariable wi_PM wc_PM_isVariable (by decide +kernel)
theorem cv_law_27 : Cvd "PartsFlowLaw" 27 "PartsFlowModel" y_PM_next b_PM_next 4 (some .boolean) 3 := cvd_of (bw_of (lw_mem 248 (by decide +kernel)) rfl) wm_PM_next ws_PM_next wi_PM wc_PM_next (by decide +kernel)
theorem cv_PM_55 : Cvd "PartsFlowModel" 55 "PartsFlowModel" y_PM_isPoint b_PM_isPoint 2 (some .boolean) 1 := cvd_of (bw_of (lw_mem 252 (by decide +kernel)) rfl) wm_PM_isPoint ws_PM_isPoint wi_PM wc_PM_isPoint (by decide +kernel)
theorem cv_law_32 : Cvd "PartsFlowLaw" 32 "PartsFlowModel" y_PM_isReached b_PM_isReached 2 (some .boolean) 1 := cvd_of (bw_of (lw_mem 256 (by decide +kernel)) rfl) wm_PM_isReached ws_PM_isReached wi_PM wc_PM_isReached (by decide +kernel)
theorem cv_PM_65 : Cvd "PartsFlowModel" 65 "PartsFlowModel" y_PM_go b_PM_go 7 none 2 := cvd_of (bw_of (lw_mem 260 (by decide +kernel)) rfl) wm_PM_go ws_PM_go wi_PM wc_PM_go (by decide +kernel)
theorem cv_PM_61 : Cvd "PartsFlowModel" 61 "PartsFlowModel" y_PM_come b_PM_come 3 none 2 := cvd_of (bw_of (lw_mem 264 (by decide +kernel)) rfl) wm_PM_come ws_PM_come wi_PM wc_PM_come (by decide +kernel)
theorem cv_law_37 : Cvd "PartsFlowLaw" 37 "PartsFlowModel" y_PM_without b_PM_without 3 (some .int) 2 := cvd_of (bw_of (lw_mem 268 (by decide +kernel)) rfl) wm_PM_without ws_PM_without wi_PM wc_PM_without (by decide +kernel)
theorem cv_PM_68 : Cvd "PartsFlowModel" 68 "PartsFlowModel" y_PM_bits b_PM_bits 6 (some .int) 3 := cvd_of (bw_of (lw_mem 272 (by decide +kernel)) rfl) wm_PM_bits ws_PM_bits wi_PM wc_PM_bits (by decide +kernel)
theorem cv_law_41 : Cvd "PartsFlowLaw" 41 "PartsFlowModel" y_PM_having b_PM_having 3 (some .int) 2 := cvd_of (bw_of (lw_mem 276 (by decide +kernel)) rfl) wm_PM_having ws_PM_having wi_PM wc_PM_having (by decide +kernel)
theorem cv_law_46 : Cvd "PartsFlowLaw" 46 "PartsFlowModel" y_PM_fault b_PM_fault 5 (some .int) 1 := cvd_of (bw_of (lw_mem 280 (by decide +kernel)) rfl) wm_PM_fault ws_PM_fault wi_PM wc_PM_fault (by decide +kernel)
theorem cv_PM_72 : Cvd "PartsFlowModel" 72 "PartsFlowModel" y_PM_isReached b_PM_isReached 2 (some .boolean) 1 := cvd_of (bw_of (lw_mem 284 (by decide +kernel)) rfl) wm_PM_isReached ws_PM_isReached wi_PM wc_PM_isReached (by decide +kernel)
theorem cv_PM_75 : Cvd "PartsFlowModel" 75 "PartsFlowModel" y_PM_without b_PM_without 3 (some .int) 2 := cvd_of (bw_of (lw_mem 285 (by decide +kernel)) rfl) wm_PM_without ws_PM_without wi_PM wc_PM_without (by decide +kernel)
theorem cv_PM_79 : Cvd "PartsFlowModel" 79 "PartsFlowModel" y_PM_having b_PM_having 3 (some .int) 2 := cvd_of (bw_of (lw_mem 286 (by decide +kernel)) rfl) wm_PM_having ws_PM_having wi_PM wc_PM_having (by decide +kernel)
theorem cv_law_50 : Cvd "PartsFlowLaw" 50 "PartsFlowModel" y_PM_count b_PM_count 8 (some .int) 1 := cvd_of (bw_of (lw_mem 287 (by decide +kernel)) rfl) wm_PM_count ws_PM_count wi_PM wc_PM_count (by decide +kernel)
theorem cv_PM_82 : Cvd "PartsFlowModel" 82 "PartsFlowModel" y_PM_fault b_PM_fault 5 (some .int) 1 := cvd_of (bw_of (lw_mem 291 (by decide +kernel)) rfl) wm_PM_fault ws_PM_fault wi_PM wc_PM_fault (by decide +kernel)
theorem cv_law_55 : Cvd "PartsFlowLaw" 55 "PartsFlowModel" y_PM_clear b_PM_clear 2 (some .int) 0 := cvd_of (bw_of (lw_mem 292 (by decide +kernel)) rfl) wm_PM_clear ws_PM_clear wi_PM wc_PM_clear (by decide +kernel)
end
section
theorem d_PP_init_0 : decode b_PP_init 0 = .ok (.aload_n 0, 1) := by decide +kernel
theorem d_PP_init_1 : decode b_PP_init 1 = .ok (.invokespecial 1, 3) := by decide +kernel
theorem d_PP_init_4 : decode b_PP_init 4 = .ok (.aload_n 0, 1) := by decide +kernel
theorem d_PP_init_5 : decode b_PP_init 5 = .ok (.iconst 3, 1) := by decide +kernel
theorem d_PP_init_6 : decode b_PP_init 6 = .ok (.newarray .long, 2) := by decide +kernel
theorem d_PP_init_8 : decode b_PP_init 8 = .ok (.putfield 9, 3) := by decide +kernel
theorem d_PP_init_11 : decode b_PP_init 11 = .ok (.return_, 1) := by decide +kernel
theorem d_PP_clear_0 : decode b_PP_clear 0 = .ok (.iconst 0, 1) := by decide +kernel
theorem d_PP_clear_1 : decode b_PP_clear 1 = .ok (.istore_n 1, 1) := by decide +kernel
theorem d_PP_clear_2 : decode b_PP_clear 2 = .ok (.iload_n 1, 1) := by decide +kernel
theorem d_PP_clear_3 : decode b_PP_clear 3 = .ok (.iconst 3, 1) := by decide +kernel
theorem d_PP_clear_4 : decode b_PP_clear 4 = .ok (.if_icmp .ge 16, 3) := by decide +kernel
theorem d_PP_clear_7 : decode b_PP_clear 7 = .ok (.aload_n 0, 1) := by decide +kernel
theorem d_PP_clear_8 : decode b_PP_clear 8 = .ok (.getfield 9, 3) := by decide +kernel
theorem d_PP_clear_11 : decode b_PP_clear 11 = .ok (.iload_n 1, 1) := by decide +kernel
theorem d_PP_clear_12 : decode b_PP_clear 12 = .ok (.lconst 0, 1) := by decide +kernel
theorem d_PP_clear_13 : decode b_PP_clear 13 = .ok (.lastore, 1) := by decide +kernel
theorem d_PP_clear_14 : decode b_PP_clear 14 = .ok (.iinc 1 1, 3) := by decide +kernel
theorem d_PP_clear_17 : decode b_PP_clear 17 = .ok (.goto (-15), 3) := by decide +kernel
theorem d_PP_clear_20 : decode b_PP_clear 20 = .ok (.return_, 1) := by decide +kernel
theorem d_PP_copy_0 : decode b_PP_copy 0 = .ok (.iconst 0, 1) := by decide +kernel
theorem d_PP_copy_1 : decode b_PP_copy 1 = .ok (.istore_n 2, 1) := by decide +kernel
theorem d_PP_copy_2 : decode b_PP_copy 2 = .ok (.iload_n 2, 1) := by decide +kernel
theorem d_PP_copy_3 : decode b_PP_copy 3 = .ok (.iconst 3, 1) := by decide +kernel
theorem d_PP_copy_4 : decode b_PP_copy 4 = .ok (.if_icmp .ge 21, 3) := by decide +kernel
theorem d_PP_copy_7 : decode b_PP_copy 7 = .ok (.aload_n 0, 1) := by decide +kernel
theorem d_PP_copy_8 : decode b_PP_copy 8 = .ok (.getfield 9, 3) := by decide +kernel
theorem d_PP_copy_11 : decode b_PP_copy 11 = .ok (.iload_n 2, 1) := by decide +kernel
theorem d_PP_copy_12 : decode b_PP_copy 12 = .ok (.aload_n 1, 1) := by decide +kernel
theorem d_PP_copy_13 : decode b_PP_copy 13 = .ok (.getfield 9, 3) := by decide +kernel
theorem d_PP_copy_16 : decode b_PP_copy 16 = .ok (.iload_n 2, 1) := by decide +kernel
theorem d_PP_copy_17 : decode b_PP_copy 17 = .ok (.laload, 1) := by decide +kernel
theorem d_PP_copy_18 : decode b_PP_copy 18 = .ok (.lastore, 1) := by decide +kernel
theorem d_PP_copy_19 : decode b_PP_copy 19 = .ok (.iinc 2 1, 3) := by decide +kernel
theorem d_PP_copy_22 : decode b_PP_copy 22 = .ok (.goto (-20), 3) := by decide +kernel
theorem d_PP_copy_25 : decode b_PP_copy 25 = .ok (.return_, 1) := by decide +kernel
theorem d_PP_set_0 : decode b_PP_set 0 = .ok (.iload_n 1, 1) := by decide +kernel
theorem d_PP_set_1 : decode b_PP_set 1 = .ok (.istore 4, 2) := by decide +kernel
theorem d_PP_set_3 : decode b_PP_set 3 = .ok (.iload 4, 2) := by decide +kernel
theorem d_PP_set_5 : decode b_PP_set 5 = .ok (.iload_n 1, 1) := by decide +kernel
theorem d_PP_set_6 : decode b_PP_set 6 = .ok (.iload_n 2, 1) := by decide +kernel
theorem d_PP_set_7 : decode b_PP_set 7 = .ok (.iadd, 1) := by decide +kernel
theorem d_PP_set_8 : decode b_PP_set 8 = .ok (.if_icmp .ge 60, 3) := by decide +kernel
theorem d_PP_set_11 : decode b_PP_set 11 = .ok (.iload_n 3, 1) := by decide +kernel
theorem d_PP_set_12 : decode b_PP_set 12 = .ok (.ifCond .eq 26, 3) := by decide +kernel
theorem d_PP_set_15 : decode b_PP_set 15 = .ok (.aload_n 0, 1) := by decide +kernel
theorem d_PP_set_16 : decode b_PP_set 16 = .ok (.getfield 9, 3) := by decide +kernel
theorem d_PP_set_19 : decode b_PP_set 19 = .ok (.iload 4, 2) := by decide +kernel
theorem d_PP_set_21 : decode b_PP_set 21 = .ok (.bipush 64, 2) := by decide +kernel
theorem d_PP_set_23 : decode b_PP_set 23 = .ok (.idiv, 1) := by decide +kernel
theorem d_PP_set_24 : decode b_PP_set 24 = .ok (.dup2, 1) := by decide +kernel
theorem d_PP_set_25 : decode b_PP_set 25 = .ok (.laload, 1) := by decide +kernel
theorem d_PP_set_26 : decode b_PP_set 26 = .ok (.lconst 1, 1) := by decide +kernel
theorem d_PP_set_27 : decode b_PP_set 27 = .ok (.iload 4, 2) := by decide +kernel
theorem d_PP_set_29 : decode b_PP_set 29 = .ok (.bipush 64, 2) := by decide +kernel
theorem d_PP_set_31 : decode b_PP_set 31 = .ok (.irem, 1) := by decide +kernel
theorem d_PP_set_32 : decode b_PP_set 32 = .ok (.lshl, 1) := by decide +kernel
theorem d_PP_set_33 : decode b_PP_set 33 = .ok (.lor, 1) := by decide +kernel
theorem d_PP_set_34 : decode b_PP_set 34 = .ok (.lastore, 1) := by decide +kernel
theorem d_PP_set_35 : decode b_PP_set 35 = .ok (.goto 27, 3) := by decide +kernel
theorem d_PP_set_38 : decode b_PP_set 38 = .ok (.aload_n 0, 1) := by decide +kernel
theorem d_PP_set_39 : decode b_PP_set 39 = .ok (.getfield 9, 3) := by decide +kernel
theorem d_PP_set_42 : decode b_PP_set 42 = .ok (.iload 4, 2) := by decide +kernel
theorem d_PP_set_44 : decode b_PP_set 44 = .ok (.bipush 64, 2) := by decide +kernel
theorem d_PP_set_46 : decode b_PP_set 46 = .ok (.idiv, 1) := by decide +kernel
theorem d_PP_set_47 : decode b_PP_set 47 = .ok (.dup2, 1) := by decide +kernel
theorem d_PP_set_48 : decode b_PP_set 48 = .ok (.laload, 1) := by decide +kernel
theorem d_PP_set_49 : decode b_PP_set 49 = .ok (.lconst 1, 1) := by decide +kernel
theorem d_PP_set_50 : decode b_PP_set 50 = .ok (.iload 4, 2) := by decide +kernel
theorem d_PP_set_52 : decode b_PP_set 52 = .ok (.bipush 64, 2) := by decide +kernel
theorem d_PP_set_54 : decode b_PP_set 54 = .ok (.irem, 1) := by decide +kernel
theorem d_PP_set_55 : decode b_PP_set 55 = .ok (.lshl, 1) := by decide +kernel
theorem d_PP_set_56 : decode b_PP_set 56 = .ok (.ldc2_w 13, 3) := by decide +kernel
theorem d_PP_set_59 : decode b_PP_set 59 = .ok (.lxor, 1) := by decide +kernel
theorem d_PP_set_60 : decode b_PP_set 60 = .ok (.land, 1) := by decide +kernel
theorem d_PP_set_61 : decode b_PP_set 61 = .ok (.lastore, 1) := by decide +kernel
theorem d_PP_set_62 : decode b_PP_set 62 = .ok (.iinc 4 1, 3) := by decide +kernel
theorem d_PP_set_65 : decode b_PP_set 65 = .ok (.goto (-62), 3) := by decide +kernel
theorem d_PP_set_68 : decode b_PP_set 68 = .ok (.return_, 1) := by decide +kernel
theorem d_PP_bits_0 : decode b_PP_bits 0 = .ok (.iconst 0, 1) := by decide +kernel
theorem d_PP_bits_1 : decode b_PP_bits 1 = .ok (.istore_n 3, 1) := by decide +kernel
theorem d_PP_bits_2 : decode b_PP_bits 2 = .ok (.iconst 0, 1) := by decide +kernel
theorem d_PP_bits_3 : decode b_PP_bits 3 = .ok (.istore 4, 2) := by decide +kernel
theorem d_PP_bits_5 : decode b_PP_bits 5 = .ok (.iload 4, 2) := by decide +kernel
theorem d_PP_bits_7 : decode b_PP_bits 7 = .ok (.iload_n 2, 1) := by decide +kernel
theorem d_PP_bits_8 : decode b_PP_bits 8 = .ok (.if_icmp .ge 38, 3) := by decide +kernel
theorem d_PP_bits_11 : decode b_PP_bits 11 = .ok (.iload_n 3, 1) := by decide +kernel
theorem d_PP_bits_12 : decode b_PP_bits 12 = .ok (.aload_n 0, 1) := by decide +kernel
theorem d_PP_bits_13 : decode b_PP_bits 13 = .ok (.getfield 9, 3) := by decide +kernel
theorem d_PP_bits_16 : decode b_PP_bits 16 = .ok (.iload_n 1, 1) := by decide +kernel
theorem d_PP_bits_17 : decode b_PP_bits 17 = .ok (.iload 4, 2) := by decide +kernel
theorem d_PP_bits_19 : decode b_PP_bits 19 = .ok (.iadd, 1) := by decide +kernel
theorem d_PP_bits_20 : decode b_PP_bits 20 = .ok (.bipush 64, 2) := by decide +kernel
theorem d_PP_bits_22 : decode b_PP_bits 22 = .ok (.idiv, 1) := by decide +kernel
theorem d_PP_bits_23 : decode b_PP_bits 23 = .ok (.laload, 1) := by decide +kernel
theorem d_PP_bits_24 : decode b_PP_bits 24 = .ok (.iload_n 1, 1) := by decide +kernel
theorem d_PP_bits_25 : decode b_PP_bits 25 = .ok (.iload 4, 2) := by decide +kernel
theorem d_PP_bits_27 : decode b_PP_bits 27 = .ok (.iadd, 1) := by decide +kernel
theorem d_PP_bits_28 : decode b_PP_bits 28 = .ok (.bipush 64, 2) := by decide +kernel
theorem d_PP_bits_30 : decode b_PP_bits 30 = .ok (.irem, 1) := by decide +kernel
theorem d_PP_bits_31 : decode b_PP_bits 31 = .ok (.lshr, 1) := by decide +kernel
theorem d_PP_bits_32 : decode b_PP_bits 32 = .ok (.lconst 1, 1) := by decide +kernel
theorem d_PP_bits_33 : decode b_PP_bits 33 = .ok (.land, 1) := by decide +kernel
theorem d_PP_bits_34 : decode b_PP_bits 34 = .ok (.l2i, 1) := by decide +kernel
theorem d_PP_bits_35 : decode b_PP_bits 35 = .ok (.iload 4, 2) := by decide +kernel
theorem d_PP_bits_37 : decode b_PP_bits 37 = .ok (.ishl, 1) := by decide +kernel
theorem d_PP_bits_38 : decode b_PP_bits 38 = .ok (.ior, 1) := by decide +kernel
theorem d_PP_bits_39 : decode b_PP_bits 39 = .ok (.istore_n 3, 1) := by decide +kernel
theorem d_PP_bits_40 : decode b_PP_bits 40 = .ok (.iinc 4 1, 3) := by decide +kernel
theorem d_PP_bits_43 : decode b_PP_bits 43 = .ok (.goto (-38), 3) := by decide +kernel
theorem d_PP_bits_46 : decode b_PP_bits 46 = .ok (.iload_n 3, 1) := by decide +kernel
theorem d_PP_bits_47 : decode b_PP_bits 47 = .ok (.ireturn, 1) := by decide +kernel
theorem d_PP_addAll_0 : decode b_PP_addAll 0 = .ok (.iconst 0, 1) := by decide +kernel
theorem d_PP_addAll_1 : decode b_PP_addAll 1 = .ok (.istore_n 2, 1) := by decide +kernel
theorem d_PP_addAll_2 : decode b_PP_addAll 2 = .ok (.iconst 0, 1) := by decide +kernel
theorem d_PP_addAll_3 : decode b_PP_addAll 3 = .ok (.istore_n 3, 1) := by decide +kernel
theorem d_PP_addAll_4 : decode b_PP_addAll 4 = .ok (.iload_n 3, 1) := by decide +kernel
theorem d_PP_addAll_5 : decode b_PP_addAll 5 = .ok (.iconst 3, 1) := by decide +kernel
theorem d_PP_addAll_6 : decode b_PP_addAll 6 = .ok (.if_icmp .ge 56, 3) := by decide +kernel
theorem d_PP_addAll_9 : decode b_PP_addAll 9 = .ok (.iload_n 2, 1) := by decide +kernel
theorem d_PP_addAll_10 : decode b_PP_addAll 10 = .ok (.ifCond .ne 25, 3) := by decide +kernel
theorem d_PP_addAll_13 : decode b_PP_addAll 13 = .ok (.aload_n 1, 1) := by decide +kernel
theorem d_PP_addAll_14 : decode b_PP_addAll 14 = .ok (.getfield 9, 3) := by decide +kernel
theorem d_PP_addAll_17 : decode b_PP_addAll 17 = .ok (.iload_n 3, 1) := by decide +kernel
theorem d_PP_addAll_18 : decode b_PP_addAll 18 = .ok (.laload, 1) := by decide +kernel
theorem d_PP_addAll_19 : decode b_PP_addAll 19 = .ok (.aload_n 0, 1) := by decide +kernel
theorem d_PP_addAll_20 : decode b_PP_addAll 20 = .ok (.getfield 9, 3) := by decide +kernel
theorem d_PP_addAll_23 : decode b_PP_addAll 23 = .ok (.iload_n 3, 1) := by decide +kernel
theorem d_PP_addAll_24 : decode b_PP_addAll 24 = .ok (.laload, 1) := by decide +kernel
theorem d_PP_addAll_25 : decode b_PP_addAll 25 = .ok (.ldc2_w 13, 3) := by decide +kernel
theorem d_PP_addAll_28 : decode b_PP_addAll 28 = .ok (.lxor, 1) := by decide +kernel
theorem d_PP_addAll_29 : decode b_PP_addAll 29 = .ok (.land, 1) := by decide +kernel
theorem d_PP_addAll_30 : decode b_PP_addAll 30 = .ok (.lconst 0, 1) := by decide +kernel
theorem d_PP_addAll_31 : decode b_PP_addAll 31 = .ok (.lcmp, 1) := by decide +kernel
theorem d_PP_addAll_32 : decode b_PP_addAll 32 = .ok (.ifCond .eq 7, 3) := by decide +kernel
theorem d_PP_addAll_35 : decode b_PP_addAll 35 = .ok (.iconst 1, 1) := by decide +kernel
theorem d_PP_addAll_36 : decode b_PP_addAll 36 = .ok (.goto 4, 3) := by decide +kernel
theorem d_PP_addAll_39 : decode b_PP_addAll 39 = .ok (.iconst 0, 1) := by decide +kernel
theorem d_PP_addAll_40 : decode b_PP_addAll 40 = .ok (.istore_n 2, 1) := by decide +kernel
theorem d_PP_addAll_41 : decode b_PP_addAll 41 = .ok (.aload_n 0, 1) := by decide +kernel
theorem d_PP_addAll_42 : decode b_PP_addAll 42 = .ok (.getfield 9, 3) := by decide +kernel
theorem d_PP_addAll_45 : decode b_PP_addAll 45 = .ok (.iload_n 3, 1) := by decide +kernel
theorem d_PP_addAll_46 : decode b_PP_addAll 46 = .ok (.dup2, 1) := by decide +kernel
theorem d_PP_addAll_47 : decode b_PP_addAll 47 = .ok (.laload, 1) := by decide +kernel
theorem d_PP_addAll_48 : decode b_PP_addAll 48 = .ok (.aload_n 1, 1) := by decide +kernel
theorem d_PP_addAll_49 : decode b_PP_addAll 49 = .ok (.getfield 9, 3) := by decide +kernel
theorem d_PP_addAll_52 : decode b_PP_addAll 52 = .ok (.iload_n 3, 1) := by decide +kernel
theorem d_PP_addAll_53 : decode b_PP_addAll 53 = .ok (.laload, 1) := by decide +kernel
theorem d_PP_addAll_54 : decode b_PP_addAll 54 = .ok (.lor, 1) := by decide +kernel
theorem d_PP_addAll_55 : decode b_PP_addAll 55 = .ok (.lastore, 1) := by decide +kernel
theorem d_PP_addAll_56 : decode b_PP_addAll 56 = .ok (.iinc 3 1, 3) := by decide +kernel
theorem d_PP_addAll_59 : decode b_PP_addAll 59 = .ok (.goto (-55), 3) := by decide +kernel
theorem d_PP_addAll_62 : decode b_PP_addAll 62 = .ok (.iload_n 2, 1) := by decide +kernel
theorem d_PP_addAll_63 : decode b_PP_addAll 63 = .ok (.ireturn, 1) := by decide +kernel
theorem d_PV_init_0 : decode b_PV_init 0 = .ok (.aload_n 0, 1) := by decide +kernel
theorem d_PV_init_1 : decode b_PV_init 1 = .ok (.invokespecial 1, 3) := by decide +kernel
theorem d_PV_init_4 : decode b_PV_init 4 = .ok (.aload_n 0, 1) := by decide +kernel
theorem d_PV_init_5 : decode b_PV_init 5 = .ok (.bipush 21, 2) := by decide +kernel
theorem d_PV_init_7 : decode b_PV_init 7 = .ok (.newarray .int, 2) := by decide +kernel
theorem d_PV_init_9 : decode b_PV_init 9 = .ok (.putfield 9, 3) := by decide +kernel
theorem d_PV_init_12 : decode b_PV_init 12 = .ok (.aload_n 0, 1) := by decide +kernel
theorem d_PV_init_13 : decode b_PV_init 13 = .ok (.bipush 20, 2) := by decide +kernel
theorem d_PV_init_15 : decode b_PV_init 15 = .ok (.newarray .boolean, 2) := by decide +kernel
theorem d_PV_init_17 : decode b_PV_init 17 = .ok (.putfield 13, 3) := by decide +kernel
theorem d_PV_init_20 : decode b_PV_init 20 = .ok (.aload_n 0, 1) := by decide +kernel
theorem d_PV_init_21 : decode b_PV_init 21 = .ok (.bipush 20, 2) := by decide +kernel
theorem d_PV_init_23 : decode b_PV_init 23 = .ok (.newarray .boolean, 2) := by decide +kernel
theorem d_PV_init_25 : decode b_PV_init 25 = .ok (.putfield 17, 3) := by decide +kernel
theorem d_PV_init_28 : decode b_PV_init 28 = .ok (.return_, 1) := by decide +kernel
theorem d_PV_is_0 : decode b_PV_is 0 = .ok (.iload_n 1, 1) := by decide +kernel
theorem d_PV_is_1 : decode b_PV_is 1 = .ok (.ifCond .lt 15, 3) := by decide +kernel
theorem d_PV_is_4 : decode b_PV_is 4 = .ok (.iload_n 1, 1) := by decide +kernel
theorem d_PV_is_5 : decode b_PV_is 5 = .ok (.aload_n 0, 1) := by decide +kernel
theorem d_PV_is_6 : decode b_PV_is 6 = .ok (.getfield 20, 3) := by decide +kernel
theorem d_PV_is_9 : decode b_PV_is 9 = .ok (.if_icmp .ge 7, 3) := by decide +kernel
theorem d_PV_is_12 : decode b_PV_is 12 = .ok (.iconst 1, 1) := by decide +kernel
theorem d_PV_is_13 : decode b_PV_is 13 = .ok (.goto 4, 3) := by decide +kernel
theorem d_PV_is_16 : decode b_PV_is 16 = .ok (.iconst 0, 1) := by decide +kernel
theorem d_PV_is_17 : decode b_PV_is 17 = .ok (.ireturn, 1) := by decide +kernel
theorem d_PV_parts_0 : decode b_PV_parts 0 = .ok (.aload_n 0, 1) := by decide +kernel
theorem d_PV_parts_1 : decode b_PV_parts 1 = .ok (.getfield 9, 3) := by decide +kernel
theorem d_PV_parts_4 : decode b_PV_parts 4 = .ok (.iload_n 1, 1) := by decide +kernel
theorem d_PV_parts_5 : decode b_PV_parts 5 = .ok (.iconst 1, 1) := by decide +kernel
theorem d_PV_parts_6 : decode b_PV_parts 6 = .ok (.iadd, 1) := by decide +kernel
theorem d_PV_parts_7 : decode b_PV_parts 7 = .ok (.iaload, 1) := by decide +kernel
theorem d_PV_parts_8 : decode b_PV_parts 8 = .ok (.aload_n 0, 1) := by decide +kernel
theorem d_PV_parts_9 : decode b_PV_parts 9 = .ok (.getfield 9, 3) := by decide +kernel
theorem d_PV_parts_12 : decode b_PV_parts 12 = .ok (.iload_n 1, 1) := by decide +kernel
theorem d_PV_parts_13 : decode b_PV_parts 13 = .ok (.iaload, 1) := by decide +kernel
theorem d_PV_parts_14 : decode b_PV_parts 14 = .ok (.isub, 1) := by decide +kernel
theorem d_PV_parts_15 : decode b_PV_parts 15 = .ok (.ireturn, 1) := by decide +kernel
theorem d_PV_add_0 : decode b_PV_add 0 = .ok (.iload_n 1, 1) := by decide +kernel
theorem d_PV_add_1 : decode b_PV_add 1 = .ok (.iconst 1, 1) := by decide +kernel
theorem d_PV_add_2 : decode b_PV_add 2 = .ok (.if_icmp .lt 18, 3) := by decide +kernel
theorem d_PV_add_5 : decode b_PV_add 5 = .ok (.iload_n 1, 1) := by decide +kernel
theorem d_PV_add_6 : decode b_PV_add 6 = .ok (.bipush 8, 2) := by decide +kernel
theorem d_PV_add_8 : decode b_PV_add 8 = .ok (.if_icmp .gt 12, 3) := by decide +kernel
theorem d_PV_add_11 : decode b_PV_add 11 = .ok (.aload_n 0, 1) := by decide +kernel
theorem d_PV_add_12 : decode b_PV_add 12 = .ok (.getfield 20, 3) := by decide +kernel
theorem d_PV_add_15 : decode b_PV_add 15 = .ok (.bipush 20, 2) := by decide +kernel
theorem d_PV_add_17 : decode b_PV_add 17 = .ok (.if_icmp .ne 5, 3) := by decide +kernel
theorem d_PV_add_20 : decode b_PV_add 20 = .ok (.iconst (-1), 1) := by decide +kernel
theorem d_PV_add_21 : decode b_PV_add 21 = .ok (.ireturn, 1) := by decide +kernel
theorem d_PV_add_22 : decode b_PV_add 22 = .ok (.aload_n 0, 1) := by decide +kernel
theorem d_PV_add_23 : decode b_PV_add 23 = .ok (.getfield 13, 3) := by decide +kernel
theorem d_PV_add_26 : decode b_PV_add 26 = .ok (.aload_n 0, 1) := by decide +kernel
theorem d_PV_add_27 : decode b_PV_add 27 = .ok (.getfield 20, 3) := by decide +kernel
theorem d_PV_add_30 : decode b_PV_add 30 = .ok (.iload_n 2, 1) := by decide +kernel
theorem d_PV_add_31 : decode b_PV_add 31 = .ok (.bastore, 1) := by decide +kernel
theorem d_PV_add_32 : decode b_PV_add 32 = .ok (.aload_n 0, 1) := by decide +kernel
theorem d_PV_add_33 : decode b_PV_add 33 = .ok (.getfield 17, 3) := by decide +kernel
theorem d_PV_add_36 : decode b_PV_add 36 = .ok (.aload_n 0, 1) := by decide +kernel
theorem d_PV_add_37 : decode b_PV_add 37 = .ok (.getfield 20, 3) := by decide +kernel
theorem d_PV_add_40 : decode b_PV_add 40 = .ok (.iload_n 3, 1) := by decide +kernel
theorem d_PV_add_41 : decode b_PV_add 41 = .ok (.bastore, 1) := by decide +kernel
theorem d_PV_add_42 : decode b_PV_add 42 = .ok (.aload_n 0, 1) := by decide +kernel
theorem d_PV_add_43 : decode b_PV_add 43 = .ok (.getfield 9, 3) := by decide +kernel
theorem d_PV_add_46 : decode b_PV_add 46 = .ok (.aload_n 0, 1) := by decide +kernel
theorem d_PV_add_47 : decode b_PV_add 47 = .ok (.getfield 20, 3) := by decide +kernel
theorem d_PV_add_50 : decode b_PV_add 50 = .ok (.iconst 1, 1) := by decide +kernel
theorem d_PV_add_51 : decode b_PV_add 51 = .ok (.iadd, 1) := by decide +kernel
theorem d_PV_add_52 : decode b_PV_add 52 = .ok (.aload_n 0, 1) := by decide +kernel
theorem d_PV_add_53 : decode b_PV_add 53 = .ok (.getfield 9, 3) := by decide +kernel
theorem d_PV_add_56 : decode b_PV_add 56 = .ok (.aload_n 0, 1) := by decide +kernel
theorem d_PV_add_57 : decode b_PV_add 57 = .ok (.getfield 20, 3) := by decide +kernel
theorem d_PV_add_60 : decode b_PV_add 60 = .ok (.iaload, 1) := by decide +kernel
theorem d_PV_add_61 : decode b_PV_add 61 = .ok (.iload_n 1, 1) := by decide +kernel
theorem d_PV_add_62 : decode b_PV_add 62 = .ok (.iadd, 1) := by decide +kernel
theorem d_PV_add_63 : decode b_PV_add 63 = .ok (.iastore, 1) := by decide +kernel
theorem d_PV_add_64 : decode b_PV_add 64 = .ok (.aload_n 0, 1) := by decide +kernel
theorem d_PV_add_65 : decode b_PV_add 65 = .ok (.dup, 1) := by decide +kernel
theorem d_PV_add_66 : decode b_PV_add 66 = .ok (.getfield 20, 3) := by decide +kernel
theorem d_PV_add_69 : decode b_PV_add 69 = .ok (.iconst 1, 1) := by decide +kernel
theorem d_PV_add_70 : decode b_PV_add 70 = .ok (.iadd, 1) := by decide +kernel
theorem d_PV_add_71 : decode b_PV_add 71 = .ok (.putfield 20, 3) := by decide +kernel
theorem d_PV_add_74 : decode b_PV_add 74 = .ok (.aload_n 0, 1) := by decide +kernel
theorem d_PV_add_75 : decode b_PV_add 75 = .ok (.getfield 20, 3) := by decide +kernel
theorem d_PV_add_78 : decode b_PV_add 78 = .ok (.iconst 1, 1) := by decide +kernel
theorem d_PV_add_79 : decode b_PV_add 79 = .ok (.isub, 1) := by decide +kernel
theorem d_PV_add_80 : decode b_PV_add 80 = .ok (.ireturn, 1) := by decide +kernel
theorem d_PF_init_0 : decode b_PF_init 0 = .ok (.aload_n 0, 1) := by decide +kernel
theorem d_PF_init_1 : decode b_PF_init 1 = .ok (.invokespecial 1, 3) := by decide +kernel
theorem d_PF_init_4 : decode b_PF_init 4 = .ok (.aload_n 0, 1) := by decide +kernel
theorem d_PF_init_5 : decode b_PF_init 5 = .ok (.new 7, 3) := by decide +kernel
theorem d_PF_init_8 : decode b_PF_init 8 = .ok (.dup, 1) := by decide +kernel
theorem d_PF_init_9 : decode b_PF_init 9 = .ok (.invokespecial 9, 3) := by decide +kernel
theorem d_PF_init_12 : decode b_PF_init 12 = .ok (.putfield 10, 3) := by decide +kernel
theorem d_PF_init_15 : decode b_PF_init 15 = .ok (.aload_n 0, 1) := by decide +kernel
theorem d_PF_init_16 : decode b_PF_init 16 = .ok (.bipush 120, 2) := by decide +kernel
theorem d_PF_init_18 : decode b_PF_init 18 = .ok (.newarray .byte, 2) := by decide +kernel
theorem d_PF_init_20 : decode b_PF_init 20 = .ok (.putfield 16, 3) := by decide +kernel
theorem d_PF_init_23 : decode b_PF_init 23 = .ok (.aload_n 0, 1) := by decide +kernel
theorem d_PF_init_24 : decode b_PF_init 24 = .ok (.bipush 120, 2) := by decide +kernel
theorem d_PF_init_26 : decode b_PF_init 26 = .ok (.newarray .int, 2) := by decide +kernel
theorem d_PF_init_28 : decode b_PF_init 28 = .ok (.putfield 20, 3) := by decide +kernel
theorem d_PF_init_31 : decode b_PF_init 31 = .ok (.aload_n 0, 1) := by decide +kernel
theorem d_PF_init_32 : decode b_PF_init 32 = .ok (.bipush 120, 2) := by decide +kernel
theorem d_PF_init_34 : decode b_PF_init 34 = .ok (.newarray .int, 2) := by decide +kernel
theorem d_PF_init_36 : decode b_PF_init 36 = .ok (.putfield 24, 3) := by decide +kernel
theorem d_PF_init_39 : decode b_PF_init 39 = .ok (.aload_n 0, 1) := by decide +kernel
theorem d_PF_init_40 : decode b_PF_init 40 = .ok (.bipush 120, 2) := by decide +kernel
theorem d_PF_init_42 : decode b_PF_init 42 = .ok (.newarray .int, 2) := by decide +kernel
theorem d_PF_init_44 : decode b_PF_init 44 = .ok (.putfield 27, 3) := by decide +kernel
theorem d_PF_init_47 : decode b_PF_init 47 = .ok (.aload_n 0, 1) := by decide +kernel
theorem d_PF_init_48 : decode b_PF_init 48 = .ok (.bipush 120, 2) := by decide +kernel
theorem d_PF_init_50 : decode b_PF_init 50 = .ok (.newarray .int, 2) := by decide +kernel
theorem d_PF_init_52 : decode b_PF_init 52 = .ok (.putfield 30, 3) := by decide +kernel
theorem d_PF_init_55 : decode b_PF_init 55 = .ok (.aload_n 0, 1) := by decide +kernel
theorem d_PF_init_56 : decode b_PF_init 56 = .ok (.bipush 120, 2) := by decide +kernel
theorem d_PF_init_58 : decode b_PF_init 58 = .ok (.newarray .int, 2) := by decide +kernel
theorem d_PF_init_60 : decode b_PF_init 60 = .ok (.putfield 33, 3) := by decide +kernel
theorem d_PF_init_63 : decode b_PF_init 63 = .ok (.aload_n 0, 1) := by decide +kernel
theorem d_PF_init_64 : decode b_PF_init 64 = .ok (.bipush 120, 2) := by decide +kernel
theorem d_PF_init_66 : decode b_PF_init 66 = .ok (.anewarray 36, 3) := by decide +kernel
theorem d_PF_init_69 : decode b_PF_init 69 = .ok (.putfield 38, 3) := by decide +kernel
theorem d_PF_init_72 : decode b_PF_init 72 = .ok (.aload_n 0, 1) := by decide +kernel
theorem d_PF_init_73 : decode b_PF_init 73 = .ok (.bipush 120, 2) := by decide +kernel
theorem d_PF_init_75 : decode b_PF_init 75 = .ok (.anewarray 36, 3) := by decide +kernel
theorem d_PF_init_78 : decode b_PF_init 78 = .ok (.putfield 42, 3) := by decide +kernel
theorem d_PF_init_81 : decode b_PF_init 81 = .ok (.aload_n 0, 1) := by decide +kernel
theorem d_PF_init_82 : decode b_PF_init 82 = .ok (.bipush 120, 2) := by decide +kernel
theorem d_PF_init_84 : decode b_PF_init 84 = .ok (.newarray .boolean, 2) := by decide +kernel
theorem d_PF_init_86 : decode b_PF_init 86 = .ok (.putfield 45, 3) := by decide +kernel
theorem d_PF_init_89 : decode b_PF_init 89 = .ok (.aload_n 0, 1) := by decide +kernel
theorem d_PF_init_90 : decode b_PF_init 90 = .ok (.new 36, 3) := by decide +kernel
theorem d_PF_init_93 : decode b_PF_init 93 = .ok (.dup, 1) := by decide +kernel
theorem d_PF_init_94 : decode b_PF_init 94 = .ok (.invokespecial 49, 3) := by decide +kernel
theorem d_PF_init_97 : decode b_PF_init 97 = .ok (.putfield 50, 3) := by decide +kernel
theorem d_PF_init_100 : decode b_PF_init 100 = .ok (.aload_n 0, 1) := by decide +kernel
theorem d_PF_init_101 : decode b_PF_init 101 = .ok (.new 36, 3) := by decide +kernel
theorem d_PF_init_104 : decode b_PF_init 104 = .ok (.dup, 1) := by decide +kernel
theorem d_PF_init_105 : decode b_PF_init 105 = .ok (.invokespecial 49, 3) := by decide +kernel
theorem d_PF_init_108 : decode b_PF_init 108 = .ok (.putfield 54, 3) := by decide +kernel
theorem d_PF_init_111 : decode b_PF_init 111 = .ok (.iconst 0, 1) := by decide +kernel
theorem d_PF_init_112 : decode b_PF_init 112 = .ok (.istore_n 1, 1) := by decide +kernel
theorem d_PF_init_113 : decode b_PF_init 113 = .ok (.iload_n 1, 1) := by decide +kernel
theorem d_PF_init_114 : decode b_PF_init 114 = .ok (.bipush 120, 2) := by decide +kernel
theorem d_PF_init_116 : decode b_PF_init 116 = .ok (.if_icmp .ge 35, 3) := by decide +kernel
theorem d_PF_init_119 : decode b_PF_init 119 = .ok (.aload_n 0, 1) := by decide +kernel
theorem d_PF_init_120 : decode b_PF_init 120 = .ok (.getfield 38, 3) := by decide +kernel
theorem d_PF_init_123 : decode b_PF_init 123 = .ok (.iload_n 1, 1) := by decide +kernel
theorem d_PF_init_124 : decode b_PF_init 124 = .ok (.new 36, 3) := by decide +kernel
theorem d_PF_init_127 : decode b_PF_init 127 = .ok (.dup, 1) := by decide +kernel
theorem d_PF_init_128 : decode b_PF_init 128 = .ok (.invokespecial 49, 3) := by decide +kernel
theorem d_PF_init_131 : decode b_PF_init 131 = .ok (.aastore, 1) := by decide +kernel
theorem d_PF_init_132 : decode b_PF_init 132 = .ok (.aload_n 0, 1) := by decide +kernel
theorem d_PF_init_133 : decode b_PF_init 133 = .ok (.getfield 42, 3) := by decide +kernel
theorem d_PF_init_136 : decode b_PF_init 136 = .ok (.iload_n 1, 1) := by decide +kernel
theorem d_PF_init_137 : decode b_PF_init 137 = .ok (.new 36, 3) := by decide +kernel
theorem d_PF_init_140 : decode b_PF_init 140 = .ok (.dup, 1) := by decide +kernel
theorem d_PF_init_141 : decode b_PF_init 141 = .ok (.invokespecial 49, 3) := by decide +kernel
theorem d_PF_init_144 : decode b_PF_init 144 = .ok (.aastore, 1) := by decide +kernel
theorem d_PF_init_145 : decode b_PF_init 145 = .ok (.iinc 1 1, 3) := by decide +kernel
theorem d_PF_init_148 : decode b_PF_init 148 = .ok (.goto (-35), 3) := by decide +kernel
theorem d_PF_init_151 : decode b_PF_init 151 = .ok (.return_, 1) := by decide +kernel
end
section
theorem d_PF_variable_0 : decode b_PF_variable 0 = .ok (.aload_n 0, 1) := by decide +kernel
theorem d_PF_variable_1 : decode b_PF_variable 1 = .ok (.getfield 10, 3) := by decide +kernel
theorem d_PF_variable_4 : decode b_PF_variable 4 = .ok (.iload_n 1, 1) := by decide +kernel
theorem d_PF_variable_5 : decode b_PF_variable 5 = .ok (.iload_n 2, 1) := by decide +kernel
theorem d_PF_variable_6 : decode b_PF_variable 6 = .ok (.iload_n 3, 1) := by decide +kernel
theorem d_PF_variable_7 : decode b_PF_variable 7 = .ok (.invokevirtual 57, 3) := by decide +kernel
theorem d_PF_variable_10 : decode b_PF_variable 10 = .ok (.istore 4, 2) := by decide +kernel
theorem d_PF_variable_12 : decode b_PF_variable 12 = .ok (.aload_n 0, 1) := by decide +kernel
theorem d_PF_variable_13 : decode b_PF_variable 13 = .ok (.aload_n 0, 1) := by decide +kernel
theorem d_PF_variable_14 : decode b_PF_variable 14 = .ok (.getfield 61, 3) := by decide +kernel
theorem d_PF_variable_17 : decode b_PF_variable 17 = .ok (.ifCond .eq 13, 3) := by decide +kernel
theorem d_PF_variable_20 : decode b_PF_variable 20 = .ok (.iload 4, 2) := by decide +kernel
theorem d_PF_variable_22 : decode b_PF_variable 22 = .ok (.iconst (-1), 1) := by decide +kernel
theorem d_PF_variable_23 : decode b_PF_variable 23 = .ok (.if_icmp .ne 7, 3) := by decide +kernel
theorem d_PF_variable_26 : decode b_PF_variable 26 = .ok (.iconst 1, 1) := by decide +kernel
theorem d_PF_variable_27 : decode b_PF_variable 27 = .ok (.goto 4, 3) := by decide +kernel
theorem d_PF_variable_30 : decode b_PF_variable 30 = .ok (.iconst 0, 1) := by decide +kernel
theorem d_PF_variable_31 : decode b_PF_variable 31 = .ok (.putfield 61, 3) := by decide +kernel
theorem d_PF_variable_34 : decode b_PF_variable 34 = .ok (.iload 4, 2) := by decide +kernel
theorem d_PF_variable_36 : decode b_PF_variable 36 = .ok (.ireturn, 1) := by decide +kernel
theorem d_PF_may_0 : decode b_PF_may 0 = .ok (.iload_n 1, 1) := by decide +kernel
theorem d_PF_may_1 : decode b_PF_may 1 = .ok (.ifCond .ne 5, 3) := by decide +kernel
theorem d_PF_may_4 : decode b_PF_may 4 = .ok (.iconst 1, 1) := by decide +kernel
theorem d_PF_may_5 : decode b_PF_may 5 = .ok (.ireturn, 1) := by decide +kernel
theorem d_PF_may_6 : decode b_PF_may 6 = .ok (.iload_n 1, 1) := by decide +kernel
theorem d_PF_may_7 : decode b_PF_may 7 = .ok (.ifCond .lt 19, 3) := by decide +kernel
theorem d_PF_may_10 : decode b_PF_may 10 = .ok (.iload_n 1, 1) := by decide +kernel
theorem d_PF_may_11 : decode b_PF_may 11 = .ok (.iconst 5, 1) := by decide +kernel
theorem d_PF_may_12 : decode b_PF_may 12 = .ok (.if_icmp .gt 14, 3) := by decide +kernel
theorem d_PF_may_15 : decode b_PF_may 15 = .ok (.aload_n 0, 1) := by decide +kernel
theorem d_PF_may_16 : decode b_PF_may 16 = .ok (.getfield 10, 3) := by decide +kernel
theorem d_PF_may_19 : decode b_PF_may 19 = .ok (.iload_n 2, 1) := by decide +kernel
theorem d_PF_may_20 : decode b_PF_may 20 = .ok (.invokevirtual 65, 3) := by decide +kernel
theorem d_PF_may_23 : decode b_PF_may 23 = .ok (.ifCond .ne 5, 3) := by decide +kernel
theorem d_PF_may_26 : decode b_PF_may 26 = .ok (.iconst 0, 1) := by decide +kernel
theorem d_PF_may_27 : decode b_PF_may 27 = .ok (.ireturn, 1) := by decide +kernel
theorem d_PF_may_28 : decode b_PF_may 28 = .ok (.iload_n 1, 1) := by decide +kernel
theorem d_PF_may_29 : decode b_PF_may 29 = .ok (.iconst 3, 1) := by decide +kernel
theorem d_PF_may_30 : decode b_PF_may 30 = .ok (.if_icmp .gt 39, 3) := by decide +kernel
theorem d_PF_may_33 : decode b_PF_may 33 = .ok (.iload_n 3, 1) := by decide +kernel
theorem d_PF_may_34 : decode b_PF_may 34 = .ok (.ifCond .lt 39, 3) := by decide +kernel
theorem d_PF_may_37 : decode b_PF_may 37 = .ok (.iload 4, 2) := by decide +kernel
theorem d_PF_may_39 : decode b_PF_may 39 = .ok (.ifCond .le 34, 3) := by decide +kernel
theorem d_PF_may_42 : decode b_PF_may 42 = .ok (.iload_n 3, 1) := by decide +kernel
theorem d_PF_may_43 : decode b_PF_may 43 = .ok (.aload_n 0, 1) := by decide +kernel
theorem d_PF_may_44 : decode b_PF_may 44 = .ok (.getfield 10, 3) := by decide +kernel
theorem d_PF_may_47 : decode b_PF_may 47 = .ok (.iload_n 2, 1) := by decide +kernel
theorem d_PF_may_48 : decode b_PF_may 48 = .ok (.invokevirtual 69, 3) := by decide +kernel
theorem d_PF_may_51 : decode b_PF_may 51 = .ok (.if_icmp .ge 22, 3) := by decide +kernel
theorem d_PF_may_54 : decode b_PF_may 54 = .ok (.iload 4, 2) := by decide +kernel
theorem d_PF_may_56 : decode b_PF_may 56 = .ok (.aload_n 0, 1) := by decide +kernel
theorem d_PF_may_57 : decode b_PF_may 57 = .ok (.getfield 10, 3) := by decide +kernel
theorem d_PF_may_60 : decode b_PF_may 60 = .ok (.iload_n 2, 1) := by decide +kernel
theorem d_PF_may_61 : decode b_PF_may 61 = .ok (.invokevirtual 69, 3) := by decide +kernel
theorem d_PF_may_64 : decode b_PF_may 64 = .ok (.iload_n 3, 1) := by decide +kernel
theorem d_PF_may_65 : decode b_PF_may 65 = .ok (.isub, 1) := by decide +kernel
theorem d_PF_may_66 : decode b_PF_may 66 = .ok (.if_icmp .gt 7, 3) := by decide +kernel
theorem d_PF_may_69 : decode b_PF_may 69 = .ok (.iconst 1, 1) := by decide +kernel
theorem d_PF_may_70 : decode b_PF_may 70 = .ok (.goto 4, 3) := by decide +kernel
theorem d_PF_may_73 : decode b_PF_may 73 = .ok (.iconst 0, 1) := by decide +kernel
theorem d_PF_may_74 : decode b_PF_may 74 = .ok (.ireturn, 1) := by decide +kernel
theorem d_PF_point_0 : decode b_PF_point 0 = .ok (.aload_n 0, 1) := by decide +kernel
theorem d_PF_point_1 : decode b_PF_point 1 = .ok (.iload_n 1, 1) := by decide +kernel
theorem d_PF_point_2 : decode b_PF_point 2 = .ok (.iload_n 2, 1) := by decide +kernel
theorem d_PF_point_3 : decode b_PF_point 3 = .ok (.iload_n 3, 1) := by decide +kernel
theorem d_PF_point_4 : decode b_PF_point 4 = .ok (.iload 4, 2) := by decide +kernel
theorem d_PF_point_6 : decode b_PF_point 6 = .ok (.invokevirtual 72, 3) := by decide +kernel
theorem d_PF_point_9 : decode b_PF_point 9 = .ok (.ifCond .eq 12, 3) := by decide +kernel
theorem d_PF_point_12 : decode b_PF_point 12 = .ok (.aload_n 0, 1) := by decide +kernel
theorem d_PF_point_13 : decode b_PF_point 13 = .ok (.getfield 76, 3) := by decide +kernel
theorem d_PF_point_16 : decode b_PF_point 16 = .ok (.bipush 120, 2) := by decide +kernel
theorem d_PF_point_18 : decode b_PF_point 18 = .ok (.if_icmp .ne 5, 3) := by decide +kernel
theorem d_PF_point_21 : decode b_PF_point 21 = .ok (.iconst (-1), 1) := by decide +kernel
theorem d_PF_point_22 : decode b_PF_point 22 = .ok (.ireturn, 1) := by decide +kernel
theorem d_PF_point_23 : decode b_PF_point 23 = .ok (.aload_n 0, 1) := by decide +kernel
theorem d_PF_point_24 : decode b_PF_point 24 = .ok (.getfield 76, 3) := by decide +kernel
theorem d_PF_point_27 : decode b_PF_point 27 = .ok (.istore 5, 2) := by decide +kernel
theorem d_PF_point_29 : decode b_PF_point 29 = .ok (.aload_n 0, 1) := by decide +kernel
theorem d_PF_point_30 : decode b_PF_point 30 = .ok (.getfield 16, 3) := by decide +kernel
theorem d_PF_point_33 : decode b_PF_point 33 = .ok (.iload 5, 2) := by decide +kernel
theorem d_PF_point_35 : decode b_PF_point 35 = .ok (.iload_n 1, 1) := by decide +kernel
theorem d_PF_point_36 : decode b_PF_point 36 = .ok (.i2b, 1) := by decide +kernel
theorem d_PF_point_37 : decode b_PF_point 37 = .ok (.bastore, 1) := by decide +kernel
theorem d_PF_point_38 : decode b_PF_point 38 = .ok (.aload_n 0, 1) := by decide +kernel
theorem d_PF_point_39 : decode b_PF_point 39 = .ok (.getfield 20, 3) := by decide +kernel
theorem d_PF_point_42 : decode b_PF_point 42 = .ok (.iload 5, 2) := by decide +kernel
theorem d_PF_point_44 : decode b_PF_point 44 = .ok (.iload_n 1, 1) := by decide +kernel
theorem d_PF_point_45 : decode b_PF_point 45 = .ok (.ifCond .ne 7, 3) := by decide +kernel
theorem d_PF_point_48 : decode b_PF_point 48 = .ok (.iconst 0, 1) := by decide +kernel
theorem d_PF_point_49 : decode b_PF_point 49 = .ok (.goto 4, 3) := by decide +kernel
theorem d_PF_point_52 : decode b_PF_point 52 = .ok (.iload_n 2, 1) := by decide +kernel
theorem d_PF_point_53 : decode b_PF_point 53 = .ok (.iastore, 1) := by decide +kernel
theorem d_PF_point_54 : decode b_PF_point 54 = .ok (.aload_n 0, 1) := by decide +kernel
theorem d_PF_point_55 : decode b_PF_point 55 = .ok (.getfield 24, 3) := by decide +kernel
theorem d_PF_point_58 : decode b_PF_point 58 = .ok (.iload 5, 2) := by decide +kernel
theorem d_PF_point_60 : decode b_PF_point 60 = .ok (.iload_n 1, 1) := by decide +kernel
theorem d_PF_point_61 : decode b_PF_point 61 = .ok (.iconst 3, 1) := by decide +kernel
theorem d_PF_point_62 : decode b_PF_point 62 = .ok (.if_icmp .gt 7, 3) := by decide +kernel
theorem d_PF_point_65 : decode b_PF_point 65 = .ok (.iload_n 1, 1) := by decide +kernel
theorem d_PF_point_66 : decode b_PF_point 66 = .ok (.ifCond .ne 7, 3) := by decide +kernel
theorem d_PF_point_69 : decode b_PF_point 69 = .ok (.iconst 0, 1) := by decide +kernel
theorem d_PF_point_70 : decode b_PF_point 70 = .ok (.goto 4, 3) := by decide +kernel
theorem d_PF_point_73 : decode b_PF_point 73 = .ok (.iload_n 3, 1) := by decide +kernel
theorem d_PF_point_74 : decode b_PF_point 74 = .ok (.iastore, 1) := by decide +kernel
theorem d_PF_point_75 : decode b_PF_point 75 = .ok (.aload_n 0, 1) := by decide +kernel
theorem d_PF_point_76 : decode b_PF_point 76 = .ok (.getfield 27, 3) := by decide +kernel
theorem d_PF_point_79 : decode b_PF_point 79 = .ok (.iload 5, 2) := by decide +kernel
theorem d_PF_point_81 : decode b_PF_point 81 = .ok (.iload_n 1, 1) := by decide +kernel
theorem d_PF_point_82 : decode b_PF_point 82 = .ok (.ifCond .ne 7, 3) := by decide +kernel
theorem d_PF_point_85 : decode b_PF_point 85 = .ok (.iconst 0, 1) := by decide +kernel
theorem d_PF_point_86 : decode b_PF_point 86 = .ok (.goto 21, 3) := by decide +kernel
theorem d_PF_point_89 : decode b_PF_point 89 = .ok (.iload_n 1, 1) := by decide +kernel
theorem d_PF_point_90 : decode b_PF_point 90 = .ok (.iconst 3, 1) := by decide +kernel
theorem d_PF_point_91 : decode b_PF_point 91 = .ok (.if_icmp .le 14, 3) := by decide +kernel
theorem d_PF_point_94 : decode b_PF_point 94 = .ok (.aload_n 0, 1) := by decide +kernel
theorem d_PF_point_95 : decode b_PF_point 95 = .ok (.getfield 10, 3) := by decide +kernel
theorem d_PF_point_98 : decode b_PF_point 98 = .ok (.iload_n 2, 1) := by decide +kernel
theorem d_PF_point_99 : decode b_PF_point 99 = .ok (.invokevirtual 69, 3) := by decide +kernel
theorem d_PF_point_102 : decode b_PF_point 102 = .ok (.goto 5, 3) := by decide +kernel
theorem d_PF_point_105 : decode b_PF_point 105 = .ok (.iload 4, 2) := by decide +kernel
theorem d_PF_point_107 : decode b_PF_point 107 = .ok (.iastore, 1) := by decide +kernel
theorem d_PF_point_108 : decode b_PF_point 108 = .ok (.aload_n 0, 1) := by decide +kernel
theorem d_PF_point_109 : decode b_PF_point 109 = .ok (.getfield 30, 3) := by decide +kernel
theorem d_PF_point_112 : decode b_PF_point 112 = .ok (.iload 5, 2) := by decide +kernel
theorem d_PF_point_114 : decode b_PF_point 114 = .ok (.iload 5, 2) := by decide +kernel
theorem d_PF_point_116 : decode b_PF_point 116 = .ok (.iconst 1, 1) := by decide +kernel
theorem d_PF_point_117 : decode b_PF_point 117 = .ok (.iadd, 1) := by decide +kernel
theorem d_PF_point_118 : decode b_PF_point 118 = .ok (.iastore, 1) := by decide +kernel
theorem d_PF_point_119 : decode b_PF_point 119 = .ok (.aload_n 0, 1) := by decide +kernel
theorem d_PF_point_120 : decode b_PF_point 120 = .ok (.getfield 33, 3) := by decide +kernel
theorem d_PF_point_123 : decode b_PF_point 123 = .ok (.iload 5, 2) := by decide +kernel
theorem d_PF_point_125 : decode b_PF_point 125 = .ok (.iconst (-1), 1) := by decide +kernel
theorem d_PF_point_126 : decode b_PF_point 126 = .ok (.iastore, 1) := by decide +kernel
theorem d_PF_point_127 : decode b_PF_point 127 = .ok (.aload_n 0, 1) := by decide +kernel
theorem d_PF_point_128 : decode b_PF_point 128 = .ok (.dup, 1) := by decide +kernel
theorem d_PF_point_129 : decode b_PF_point 129 = .ok (.getfield 76, 3) := by decide +kernel
theorem d_PF_point_132 : decode b_PF_point 132 = .ok (.iconst 1, 1) := by decide +kernel
theorem d_PF_point_133 : decode b_PF_point 133 = .ok (.iadd, 1) := by decide +kernel
theorem d_PF_point_134 : decode b_PF_point 134 = .ok (.putfield 76, 3) := by decide +kernel
theorem d_PF_point_137 : decode b_PF_point 137 = .ok (.aload_n 0, 1) := by decide +kernel
theorem d_PF_point_138 : decode b_PF_point 138 = .ok (.iconst 0, 1) := by decide +kernel
theorem d_PF_point_139 : decode b_PF_point 139 = .ok (.putfield 61, 3) := by decide +kernel
theorem d_PF_point_142 : decode b_PF_point 142 = .ok (.iload 5, 2) := by decide +kernel
theorem d_PF_point_144 : decode b_PF_point 144 = .ok (.ireturn, 1) := by decide +kernel
theorem d_PF_isPoint_0 : decode b_PF_isPoint 0 = .ok (.iload_n 1, 1) := by decide +kernel
theorem d_PF_isPoint_1 : decode b_PF_isPoint 1 = .ok (.ifCond .lt 15, 3) := by decide +kernel
theorem d_PF_isPoint_4 : decode b_PF_isPoint 4 = .ok (.iload_n 1, 1) := by decide +kernel
theorem d_PF_isPoint_5 : decode b_PF_isPoint 5 = .ok (.aload_n 0, 1) := by decide +kernel
theorem d_PF_isPoint_6 : decode b_PF_isPoint 6 = .ok (.getfield 76, 3) := by decide +kernel
theorem d_PF_isPoint_9 : decode b_PF_isPoint 9 = .ok (.if_icmp .ge 7, 3) := by decide +kernel
theorem d_PF_isPoint_12 : decode b_PF_isPoint 12 = .ok (.iconst 1, 1) := by decide +kernel
theorem d_PF_isPoint_13 : decode b_PF_isPoint 13 = .ok (.goto 4, 3) := by decide +kernel
theorem d_PF_isPoint_16 : decode b_PF_isPoint 16 = .ok (.iconst 0, 1) := by decide +kernel
theorem d_PF_isPoint_17 : decode b_PF_isPoint 17 = .ok (.ireturn, 1) := by decide +kernel
theorem d_PF_next_0 : decode b_PF_next 0 = .ok (.aload_n 0, 1) := by decide +kernel
theorem d_PF_next_1 : decode b_PF_next 1 = .ok (.iload_n 1, 1) := by decide +kernel
theorem d_PF_next_2 : decode b_PF_next 2 = .ok (.invokevirtual 80, 3) := by decide +kernel
theorem d_PF_next_5 : decode b_PF_next 5 = .ok (.ifCond .eq 25, 3) := by decide +kernel
theorem d_PF_next_8 : decode b_PF_next 8 = .ok (.iload_n 2, 1) := by decide +kernel
theorem d_PF_next_9 : decode b_PF_next 9 = .ok (.iconst (-1), 1) := by decide +kernel
theorem d_PF_next_10 : decode b_PF_next 10 = .ok (.if_icmp .lt 20, 3) := by decide +kernel
theorem d_PF_next_13 : decode b_PF_next 13 = .ok (.iload_n 3, 1) := by decide +kernel
theorem d_PF_next_14 : decode b_PF_next 14 = .ok (.iconst (-1), 1) := by decide +kernel
theorem d_PF_next_15 : decode b_PF_next 15 = .ok (.if_icmp .lt 15, 3) := by decide +kernel
theorem d_PF_next_18 : decode b_PF_next 18 = .ok (.iload_n 2, 1) := by decide +kernel
theorem d_PF_next_19 : decode b_PF_next 19 = .ok (.bipush 120, 2) := by decide +kernel
theorem d_PF_next_21 : decode b_PF_next 21 = .ok (.if_icmp .ge 9, 3) := by decide +kernel
theorem d_PF_next_24 : decode b_PF_next 24 = .ok (.iload_n 3, 1) := by decide +kernel
theorem d_PF_next_25 : decode b_PF_next 25 = .ok (.bipush 120, 2) := by decide +kernel
theorem d_PF_next_27 : decode b_PF_next 27 = .ok (.if_icmp .lt 5, 3) := by decide +kernel
theorem d_PF_next_30 : decode b_PF_next 30 = .ok (.iconst 0, 1) := by decide +kernel
theorem d_PF_next_31 : decode b_PF_next 31 = .ok (.ireturn, 1) := by decide +kernel
theorem d_PF_next_32 : decode b_PF_next 32 = .ok (.aload_n 0, 1) := by decide +kernel
theorem d_PF_next_33 : decode b_PF_next 33 = .ok (.getfield 30, 3) := by decide +kernel
theorem d_PF_next_36 : decode b_PF_next 36 = .ok (.iload_n 1, 1) := by decide +kernel
theorem d_PF_next_37 : decode b_PF_next 37 = .ok (.iload_n 2, 1) := by decide +kernel
theorem d_PF_next_38 : decode b_PF_next 38 = .ok (.iastore, 1) := by decide +kernel
theorem d_PF_next_39 : decode b_PF_next 39 = .ok (.aload_n 0, 1) := by decide +kernel
theorem d_PF_next_40 : decode b_PF_next 40 = .ok (.getfield 33, 3) := by decide +kernel
theorem d_PF_next_43 : decode b_PF_next 43 = .ok (.iload_n 1, 1) := by decide +kernel
theorem d_PF_next_44 : decode b_PF_next 44 = .ok (.iload_n 3, 1) := by decide +kernel
theorem d_PF_next_45 : decode b_PF_next 45 = .ok (.iastore, 1) := by decide +kernel
theorem d_PF_next_46 : decode b_PF_next 46 = .ok (.aload_n 0, 1) := by decide +kernel
theorem d_PF_next_47 : decode b_PF_next 47 = .ok (.iconst 0, 1) := by decide +kernel
theorem d_PF_next_48 : decode b_PF_next 48 = .ok (.putfield 61, 3) := by decide +kernel
theorem d_PF_next_51 : decode b_PF_next 51 = .ok (.iconst 1, 1) := by decide +kernel
theorem d_PF_next_52 : decode b_PF_next 52 = .ok (.ireturn, 1) := by decide +kernel
theorem d_PF_come_0 : decode b_PF_come 0 = .ok (.aload_n 0, 1) := by decide +kernel
theorem d_PF_come_1 : decode b_PF_come 1 = .ok (.iload_n 1, 1) := by decide +kernel
theorem d_PF_come_2 : decode b_PF_come 2 = .ok (.invokevirtual 80, 3) := by decide +kernel
theorem d_PF_come_5 : decode b_PF_come 5 = .ok (.ifCond .ne 4, 3) := by decide +kernel
theorem d_PF_come_8 : decode b_PF_come 8 = .ok (.return_, 1) := by decide +kernel
theorem d_PF_come_9 : decode b_PF_come 9 = .ok (.aload_n 0, 1) := by decide +kernel
theorem d_PF_come_10 : decode b_PF_come 10 = .ok (.aload_n 0, 1) := by decide +kernel
theorem d_PF_come_11 : decode b_PF_come 11 = .ok (.getfield 83, 3) := by decide +kernel
theorem d_PF_come_14 : decode b_PF_come 14 = .ok (.ifCond .ne 12, 3) := by decide +kernel
theorem d_PF_come_17 : decode b_PF_come 17 = .ok (.aload_n 0, 1) := by decide +kernel
theorem d_PF_come_18 : decode b_PF_come 18 = .ok (.getfield 45, 3) := by decide +kernel
theorem d_PF_come_21 : decode b_PF_come 21 = .ok (.iload_n 1, 1) := by decide +kernel
theorem d_PF_come_22 : decode b_PF_come 22 = .ok (.baload, 1) := by decide +kernel
theorem d_PF_come_23 : decode b_PF_come 23 = .ok (.ifCond .ne 7, 3) := by decide +kernel
theorem d_PF_come_26 : decode b_PF_come 26 = .ok (.iconst 1, 1) := by decide +kernel
theorem d_PF_come_27 : decode b_PF_come 27 = .ok (.goto 4, 3) := by decide +kernel
theorem d_PF_come_30 : decode b_PF_come 30 = .ok (.iconst 0, 1) := by decide +kernel
theorem d_PF_come_31 : decode b_PF_come 31 = .ok (.putfield 83, 3) := by decide +kernel
theorem d_PF_come_34 : decode b_PF_come 34 = .ok (.aload_n 0, 1) := by decide +kernel
theorem d_PF_come_35 : decode b_PF_come 35 = .ok (.getfield 45, 3) := by decide +kernel
theorem d_PF_come_38 : decode b_PF_come 38 = .ok (.iload_n 1, 1) := by decide +kernel
theorem d_PF_come_39 : decode b_PF_come 39 = .ok (.iconst 1, 1) := by decide +kernel
theorem d_PF_come_40 : decode b_PF_come 40 = .ok (.bastore, 1) := by decide +kernel
theorem d_PF_come_41 : decode b_PF_come 41 = .ok (.aload_n 0, 1) := by decide +kernel
theorem d_PF_come_42 : decode b_PF_come 42 = .ok (.getfield 38, 3) := by decide +kernel
theorem d_PF_come_45 : decode b_PF_come 45 = .ok (.iload_n 1, 1) := by decide +kernel
theorem d_PF_come_46 : decode b_PF_come 46 = .ok (.aaload, 1) := by decide +kernel
theorem d_PF_come_47 : decode b_PF_come 47 = .ok (.aload_n 0, 1) := by decide +kernel
theorem d_PF_come_48 : decode b_PF_come 48 = .ok (.getfield 50, 3) := by decide +kernel
theorem d_PF_come_51 : decode b_PF_come 51 = .ok (.invokevirtual 86, 3) := by decide +kernel
theorem d_PF_come_54 : decode b_PF_come 54 = .ok (.ifCond .eq 8, 3) := by decide +kernel
theorem d_PF_come_57 : decode b_PF_come 57 = .ok (.aload_n 0, 1) := by decide +kernel
theorem d_PF_come_58 : decode b_PF_come 58 = .ok (.iconst 1, 1) := by decide +kernel
theorem d_PF_come_59 : decode b_PF_come 59 = .ok (.putfield 83, 3) := by decide +kernel
theorem d_PF_come_62 : decode b_PF_come 62 = .ok (.aload_n 0, 1) := by decide +kernel
theorem d_PF_come_63 : decode b_PF_come 63 = .ok (.getfield 42, 3) := by decide +kernel
theorem d_PF_come_66 : decode b_PF_come 66 = .ok (.iload_n 1, 1) := by decide +kernel
theorem d_PF_come_67 : decode b_PF_come 67 = .ok (.aaload, 1) := by decide +kernel
theorem d_PF_come_68 : decode b_PF_come 68 = .ok (.aload_n 0, 1) := by decide +kernel
theorem d_PF_come_69 : decode b_PF_come 69 = .ok (.getfield 54, 3) := by decide +kernel
theorem d_PF_come_72 : decode b_PF_come 72 = .ok (.invokevirtual 86, 3) := by decide +kernel
theorem d_PF_come_75 : decode b_PF_come 75 = .ok (.ifCond .eq 8, 3) := by decide +kernel
theorem d_PF_come_78 : decode b_PF_come 78 = .ok (.aload_n 0, 1) := by decide +kernel
theorem d_PF_come_79 : decode b_PF_come 79 = .ok (.iconst 1, 1) := by decide +kernel
theorem d_PF_come_80 : decode b_PF_come 80 = .ok (.putfield 83, 3) := by decide +kernel
theorem d_PF_come_83 : decode b_PF_come 83 = .ok (.return_, 1) := by decide +kernel
theorem d_PF_pass_0 : decode b_PF_pass 0 = .ok (.aload_n 0, 1) := by decide +kernel
theorem d_PF_pass_1 : decode b_PF_pass 1 = .ok (.getfield 50, 3) := by decide +kernel
theorem d_PF_pass_4 : decode b_PF_pass 4 = .ok (.aload_n 0, 1) := by decide +kernel
theorem d_PF_pass_5 : decode b_PF_pass 5 = .ok (.getfield 38, 3) := by decide +kernel
theorem d_PF_pass_8 : decode b_PF_pass 8 = .ok (.iload_n 1, 1) := by decide +kernel
theorem d_PF_pass_9 : decode b_PF_pass 9 = .ok (.aaload, 1) := by decide +kernel
theorem d_PF_pass_10 : decode b_PF_pass 10 = .ok (.invokevirtual 90, 3) := by decide +kernel
theorem d_PF_pass_13 : decode b_PF_pass 13 = .ok (.aload_n 0, 1) := by decide +kernel
theorem d_PF_pass_14 : decode b_PF_pass 14 = .ok (.getfield 54, 3) := by decide +kernel
theorem d_PF_pass_17 : decode b_PF_pass 17 = .ok (.aload_n 0, 1) := by decide +kernel
theorem d_PF_pass_18 : decode b_PF_pass 18 = .ok (.getfield 42, 3) := by decide +kernel
theorem d_PF_pass_21 : decode b_PF_pass 21 = .ok (.iload_n 1, 1) := by decide +kernel
theorem d_PF_pass_22 : decode b_PF_pass 22 = .ok (.aaload, 1) := by decide +kernel
theorem d_PF_pass_23 : decode b_PF_pass 23 = .ok (.invokevirtual 90, 3) := by decide +kernel
theorem d_PF_pass_26 : decode b_PF_pass 26 = .ok (.aload_n 0, 1) := by decide +kernel
theorem d_PF_pass_27 : decode b_PF_pass 27 = .ok (.getfield 16, 3) := by decide +kernel
theorem d_PF_pass_30 : decode b_PF_pass 30 = .ok (.iload_n 1, 1) := by decide +kernel
theorem d_PF_pass_31 : decode b_PF_pass 31 = .ok (.baload, 1) := by decide +kernel
theorem d_PF_pass_32 : decode b_PF_pass 32 = .ok (.ifCond .eq 13, 3) := by decide +kernel
theorem d_PF_pass_35 : decode b_PF_pass 35 = .ok (.aload_n 0, 1) := by decide +kernel
theorem d_PF_pass_36 : decode b_PF_pass 36 = .ok (.getfield 16, 3) := by decide +kernel
theorem d_PF_pass_39 : decode b_PF_pass 39 = .ok (.iload_n 1, 1) := by decide +kernel
theorem d_PF_pass_40 : decode b_PF_pass 40 = .ok (.baload, 1) := by decide +kernel
theorem d_PF_pass_41 : decode b_PF_pass 41 = .ok (.iconst 3, 1) := by decide +kernel
theorem d_PF_pass_42 : decode b_PF_pass 42 = .ok (.if_icmp .ne 4, 3) := by decide +kernel
theorem d_PF_pass_45 : decode b_PF_pass 45 = .ok (.return_, 1) := by decide +kernel
theorem d_PF_pass_46 : decode b_PF_pass 46 = .ok (.aload_n 0, 1) := by decide +kernel
theorem d_PF_pass_47 : decode b_PF_pass 47 = .ok (.getfield 10, 3) := by decide +kernel
theorem d_PF_pass_50 : decode b_PF_pass 50 = .ok (.getfield 94, 3) := by decide +kernel
theorem d_PF_pass_53 : decode b_PF_pass 53 = .ok (.aload_n 0, 1) := by decide +kernel
theorem d_PF_pass_54 : decode b_PF_pass 54 = .ok (.getfield 20, 3) := by decide +kernel
theorem d_PF_pass_57 : decode b_PF_pass 57 = .ok (.iload_n 1, 1) := by decide +kernel
theorem d_PF_pass_58 : decode b_PF_pass 58 = .ok (.iaload, 1) := by decide +kernel
theorem d_PF_pass_59 : decode b_PF_pass 59 = .ok (.iaload, 1) := by decide +kernel
theorem d_PF_pass_60 : decode b_PF_pass 60 = .ok (.aload_n 0, 1) := by decide +kernel
theorem d_PF_pass_61 : decode b_PF_pass 61 = .ok (.getfield 24, 3) := by decide +kernel
theorem d_PF_pass_64 : decode b_PF_pass 64 = .ok (.iload_n 1, 1) := by decide +kernel
theorem d_PF_pass_65 : decode b_PF_pass 65 = .ok (.iaload, 1) := by decide +kernel
theorem d_PF_pass_66 : decode b_PF_pass 66 = .ok (.iadd, 1) := by decide +kernel
theorem d_PF_pass_67 : decode b_PF_pass 67 = .ok (.istore_n 2, 1) := by decide +kernel
theorem d_PF_pass_68 : decode b_PF_pass 68 = .ok (.aload_n 0, 1) := by decide +kernel
theorem d_PF_pass_69 : decode b_PF_pass 69 = .ok (.getfield 50, 3) := by decide +kernel
theorem d_PF_pass_72 : decode b_PF_pass 72 = .ok (.iload_n 2, 1) := by decide +kernel
theorem d_PF_pass_73 : decode b_PF_pass 73 = .ok (.aload_n 0, 1) := by decide +kernel
theorem d_PF_pass_74 : decode b_PF_pass 74 = .ok (.getfield 27, 3) := by decide +kernel
theorem d_PF_pass_77 : decode b_PF_pass 77 = .ok (.iload_n 1, 1) := by decide +kernel
theorem d_PF_pass_78 : decode b_PF_pass 78 = .ok (.iaload, 1) := by decide +kernel
theorem d_PF_pass_79 : decode b_PF_pass 79 = .ok (.aload_n 0, 1) := by decide +kernel
theorem d_PF_pass_80 : decode b_PF_pass 80 = .ok (.getfield 16, 3) := by decide +kernel
theorem d_PF_pass_83 : decode b_PF_pass 83 = .ok (.iload_n 1, 1) := by decide +kernel
theorem d_PF_pass_84 : decode b_PF_pass 84 = .ok (.baload, 1) := by decide +kernel
theorem d_PF_pass_85 : decode b_PF_pass 85 = .ok (.iconst 1, 1) := by decide +kernel
theorem d_PF_pass_86 : decode b_PF_pass 86 = .ok (.if_icmp .eq 7, 3) := by decide +kernel
theorem d_PF_pass_89 : decode b_PF_pass 89 = .ok (.iconst 1, 1) := by decide +kernel
theorem d_PF_pass_90 : decode b_PF_pass 90 = .ok (.goto 4, 3) := by decide +kernel
theorem d_PF_pass_93 : decode b_PF_pass 93 = .ok (.iconst 0, 1) := by decide +kernel
theorem d_PF_pass_94 : decode b_PF_pass 94 = .ok (.invokevirtual 95, 3) := by decide +kernel
theorem d_PF_pass_97 : decode b_PF_pass 97 = .ok (.aload_n 0, 1) := by decide +kernel
theorem d_PF_pass_98 : decode b_PF_pass 98 = .ok (.getfield 54, 3) := by decide +kernel
theorem d_PF_pass_101 : decode b_PF_pass 101 = .ok (.iload_n 2, 1) := by decide +kernel
theorem d_PF_pass_102 : decode b_PF_pass 102 = .ok (.aload_n 0, 1) := by decide +kernel
theorem d_PF_pass_103 : decode b_PF_pass 103 = .ok (.getfield 27, 3) := by decide +kernel
theorem d_PF_pass_106 : decode b_PF_pass 106 = .ok (.iload_n 1, 1) := by decide +kernel
theorem d_PF_pass_107 : decode b_PF_pass 107 = .ok (.iaload, 1) := by decide +kernel
theorem d_PF_pass_108 : decode b_PF_pass 108 = .ok (.aload_n 0, 1) := by decide +kernel
theorem d_PF_pass_109 : decode b_PF_pass 109 = .ok (.getfield 16, 3) := by decide +kernel
theorem d_PF_pass_112 : decode b_PF_pass 112 = .ok (.iload_n 1, 1) := by decide +kernel
theorem d_PF_pass_113 : decode b_PF_pass 113 = .ok (.baload, 1) := by decide +kernel
theorem d_PF_pass_114 : decode b_PF_pass 114 = .ok (.iconst 1, 1) := by decide +kernel
theorem d_PF_pass_115 : decode b_PF_pass 115 = .ok (.if_icmp .ne 7, 3) := by decide +kernel
theorem d_PF_pass_118 : decode b_PF_pass 118 = .ok (.iconst 1, 1) := by decide +kernel
theorem d_PF_pass_119 : decode b_PF_pass 119 = .ok (.goto 4, 3) := by decide +kernel
theorem d_PF_pass_122 : decode b_PF_pass 122 = .ok (.iconst 0, 1) := by decide +kernel
theorem d_PF_pass_123 : decode b_PF_pass 123 = .ok (.invokevirtual 95, 3) := by decide +kernel
theorem d_PF_pass_126 : decode b_PF_pass 126 = .ok (.return_, 1) := by decide +kernel
theorem d_PF_know_0 : decode b_PF_know 0 = .ok (.aload_n 0, 1) := by decide +kernel
theorem d_PF_know_1 : decode b_PF_know 1 = .ok (.getfield 61, 3) := by decide +kernel
theorem d_PF_know_4 : decode b_PF_know 4 = .ok (.ifCond .eq 4, 3) := by decide +kernel
theorem d_PF_know_7 : decode b_PF_know 7 = .ok (.return_, 1) := by decide +kernel
theorem d_PF_know_8 : decode b_PF_know 8 = .ok (.aload_n 0, 1) := by decide +kernel
theorem d_PF_know_9 : decode b_PF_know 9 = .ok (.iconst 1, 1) := by decide +kernel
theorem d_PF_know_10 : decode b_PF_know 10 = .ok (.putfield 61, 3) := by decide +kernel
theorem d_PF_know_13 : decode b_PF_know 13 = .ok (.iconst 0, 1) := by decide +kernel
theorem d_PF_know_14 : decode b_PF_know 14 = .ok (.istore_n 1, 1) := by decide +kernel
theorem d_PF_know_15 : decode b_PF_know 15 = .ok (.iload_n 1, 1) := by decide +kernel
theorem d_PF_know_16 : decode b_PF_know 16 = .ok (.bipush 120, 2) := by decide +kernel
theorem d_PF_know_18 : decode b_PF_know 18 = .ok (.if_icmp .ge 34, 3) := by decide +kernel
theorem d_PF_know_21 : decode b_PF_know 21 = .ok (.aload_n 0, 1) := by decide +kernel
theorem d_PF_know_22 : decode b_PF_know 22 = .ok (.getfield 38, 3) := by decide +kernel
theorem d_PF_know_25 : decode b_PF_know 25 = .ok (.iload_n 1, 1) := by decide +kernel
theorem d_PF_know_26 : decode b_PF_know 26 = .ok (.aaload, 1) := by decide +kernel
theorem d_PF_know_27 : decode b_PF_know 27 = .ok (.invokevirtual 99, 3) := by decide +kernel
theorem d_PF_know_30 : decode b_PF_know 30 = .ok (.aload_n 0, 1) := by decide +kernel
theorem d_PF_know_31 : decode b_PF_know 31 = .ok (.getfield 42, 3) := by decide +kernel
theorem d_PF_know_34 : decode b_PF_know 34 = .ok (.iload_n 1, 1) := by decide +kernel
theorem d_PF_know_35 : decode b_PF_know 35 = .ok (.aaload, 1) := by decide +kernel
theorem d_PF_know_36 : decode b_PF_know 36 = .ok (.invokevirtual 99, 3) := by decide +kernel
theorem d_PF_know_39 : decode b_PF_know 39 = .ok (.aload_n 0, 1) := by decide +kernel
theorem d_PF_know_40 : decode b_PF_know 40 = .ok (.getfield 45, 3) := by decide +kernel
theorem d_PF_know_43 : decode b_PF_know 43 = .ok (.iload_n 1, 1) := by decide +kernel
theorem d_PF_know_44 : decode b_PF_know 44 = .ok (.iconst 0, 1) := by decide +kernel
theorem d_PF_know_45 : decode b_PF_know 45 = .ok (.bastore, 1) := by decide +kernel
theorem d_PF_know_46 : decode b_PF_know 46 = .ok (.iinc 1 1, 3) := by decide +kernel
theorem d_PF_know_49 : decode b_PF_know 49 = .ok (.goto (-34), 3) := by decide +kernel
theorem d_PF_know_52 : decode b_PF_know 52 = .ok (.aload_n 0, 1) := by decide +kernel
theorem d_PF_know_53 : decode b_PF_know 53 = .ok (.getfield 50, 3) := by decide +kernel
theorem d_PF_know_56 : decode b_PF_know 56 = .ok (.invokevirtual 99, 3) := by decide +kernel
theorem d_PF_know_59 : decode b_PF_know 59 = .ok (.aload_n 0, 1) := by decide +kernel
theorem d_PF_know_60 : decode b_PF_know 60 = .ok (.getfield 54, 3) := by decide +kernel
theorem d_PF_know_63 : decode b_PF_know 63 = .ok (.invokevirtual 99, 3) := by decide +kernel
theorem d_PF_know_66 : decode b_PF_know 66 = .ok (.iconst 0, 1) := by decide +kernel
theorem d_PF_know_67 : decode b_PF_know 67 = .ok (.istore_n 1, 1) := by decide +kernel
theorem d_PF_know_68 : decode b_PF_know 68 = .ok (.iload_n 1, 1) := by decide +kernel
theorem d_PF_know_69 : decode b_PF_know 69 = .ok (.aload_n 0, 1) := by decide +kernel
theorem d_PF_know_70 : decode b_PF_know 70 = .ok (.getfield 10, 3) := by decide +kernel
theorem d_PF_know_73 : decode b_PF_know 73 = .ok (.getfield 102, 3) := by decide +kernel
theorem d_PF_know_76 : decode b_PF_know 76 = .ok (.if_icmp .ge 83, 3) := by decide +kernel
theorem d_PF_know_79 : decode b_PF_know 79 = .ok (.aload_n 0, 1) := by decide +kernel
theorem d_PF_know_80 : decode b_PF_know 80 = .ok (.getfield 50, 3) := by decide +kernel
theorem d_PF_know_83 : decode b_PF_know 83 = .ok (.aload_n 0, 1) := by decide +kernel
theorem d_PF_know_84 : decode b_PF_know 84 = .ok (.getfield 10, 3) := by decide +kernel
theorem d_PF_know_87 : decode b_PF_know 87 = .ok (.getfield 94, 3) := by decide +kernel
theorem d_PF_know_90 : decode b_PF_know 90 = .ok (.iload_n 1, 1) := by decide +kernel
theorem d_PF_know_91 : decode b_PF_know 91 = .ok (.iaload, 1) := by decide +kernel
theorem d_PF_know_92 : decode b_PF_know 92 = .ok (.aload_n 0, 1) := by decide +kernel
theorem d_PF_know_93 : decode b_PF_know 93 = .ok (.getfield 10, 3) := by decide +kernel
theorem d_PF_know_96 : decode b_PF_know 96 = .ok (.iload_n 1, 1) := by decide +kernel
theorem d_PF_know_97 : decode b_PF_know 97 = .ok (.invokevirtual 69, 3) := by decide +kernel
theorem d_PF_know_100 : decode b_PF_know 100 = .ok (.aload_n 0, 1) := by decide +kernel
theorem d_PF_know_101 : decode b_PF_know 101 = .ok (.getfield 10, 3) := by decide +kernel
theorem d_PF_know_104 : decode b_PF_know 104 = .ok (.getfield 103, 3) := by decide +kernel
theorem d_PF_know_107 : decode b_PF_know 107 = .ok (.iload_n 1, 1) := by decide +kernel
theorem d_PF_know_108 : decode b_PF_know 108 = .ok (.baload, 1) := by decide +kernel
theorem d_PF_know_109 : decode b_PF_know 109 = .ok (.ifCond .ne 7, 3) := by decide +kernel
theorem d_PF_know_112 : decode b_PF_know 112 = .ok (.iconst 1, 1) := by decide +kernel
theorem d_PF_know_113 : decode b_PF_know 113 = .ok (.goto 4, 3) := by decide +kernel
theorem d_PF_know_116 : decode b_PF_know 116 = .ok (.iconst 0, 1) := by decide +kernel
theorem d_PF_know_117 : decode b_PF_know 117 = .ok (.invokevirtual 95, 3) := by decide +kernel
theorem d_PF_know_120 : decode b_PF_know 120 = .ok (.aload_n 0, 1) := by decide +kernel
theorem d_PF_know_121 : decode b_PF_know 121 = .ok (.getfield 54, 3) := by decide +kernel
theorem d_PF_know_124 : decode b_PF_know 124 = .ok (.aload_n 0, 1) := by decide +kernel
theorem d_PF_know_125 : decode b_PF_know 125 = .ok (.getfield 10, 3) := by decide +kernel
theorem d_PF_know_128 : decode b_PF_know 128 = .ok (.getfield 94, 3) := by decide +kernel
theorem d_PF_know_131 : decode b_PF_know 131 = .ok (.iload_n 1, 1) := by decide +kernel
theorem d_PF_know_132 : decode b_PF_know 132 = .ok (.iaload, 1) := by decide +kernel
theorem d_PF_know_133 : decode b_PF_know 133 = .ok (.aload_n 0, 1) := by decide +kernel
theorem d_PF_know_134 : decode b_PF_know 134 = .ok (.getfield 10, 3) := by decide +kernel
theorem d_PF_know_137 : decode b_PF_know 137 = .ok (.iload_n 1, 1) := by decide +kernel
theorem d_PF_know_138 : decode b_PF_know 138 = .ok (.invokevirtual 69, 3) := by decide +kernel
theorem d_PF_know_141 : decode b_PF_know 141 = .ok (.aload_n 0, 1) := by decide +kernel
theorem d_PF_know_142 : decode b_PF_know 142 = .ok (.getfield 10, 3) := by decide +kernel
theorem d_PF_know_145 : decode b_PF_know 145 = .ok (.getfield 103, 3) := by decide +kernel
theorem d_PF_know_148 : decode b_PF_know 148 = .ok (.iload_n 1, 1) := by decide +kernel
theorem d_PF_know_149 : decode b_PF_know 149 = .ok (.baload, 1) := by decide +kernel
theorem d_PF_know_150 : decode b_PF_know 150 = .ok (.invokevirtual 95, 3) := by decide +kernel
theorem d_PF_know_153 : decode b_PF_know 153 = .ok (.iinc 1 1, 3) := by decide +kernel
theorem d_PF_know_156 : decode b_PF_know 156 = .ok (.goto (-88), 3) := by decide +kernel
theorem d_PF_know_159 : decode b_PF_know 159 = .ok (.aload_n 0, 1) := by decide +kernel
theorem d_PF_know_160 : decode b_PF_know 160 = .ok (.iconst 0, 1) := by decide +kernel
theorem d_PF_know_161 : decode b_PF_know 161 = .ok (.invokevirtual 106, 3) := by decide +kernel
theorem d_PF_know_164 : decode b_PF_know 164 = .ok (.aload_n 0, 1) := by decide +kernel
theorem d_PF_know_165 : decode b_PF_know 165 = .ok (.iconst 1, 1) := by decide +kernel
theorem d_PF_know_166 : decode b_PF_know 166 = .ok (.putfield 83, 3) := by decide +kernel
theorem d_PF_know_169 : decode b_PF_know 169 = .ok (.aload_n 0, 1) := by decide +kernel
theorem d_PF_know_170 : decode b_PF_know 170 = .ok (.getfield 83, 3) := by decide +kernel
theorem d_PF_know_173 : decode b_PF_know 173 = .ok (.ifCond .eq 64, 3) := by decide +kernel
theorem d_PF_know_176 : decode b_PF_know 176 = .ok (.aload_n 0, 1) := by decide +kernel
theorem d_PF_know_177 : decode b_PF_know 177 = .ok (.iconst 0, 1) := by decide +kernel
theorem d_PF_know_178 : decode b_PF_know 178 = .ok (.putfield 83, 3) := by decide +kernel
theorem d_PF_know_181 : decode b_PF_know 181 = .ok (.iconst 0, 1) := by decide +kernel
theorem d_PF_know_182 : decode b_PF_know 182 = .ok (.istore_n 1, 1) := by decide +kernel
theorem d_PF_know_183 : decode b_PF_know 183 = .ok (.iload_n 1, 1) := by decide +kernel
theorem d_PF_know_184 : decode b_PF_know 184 = .ok (.aload_n 0, 1) := by decide +kernel
theorem d_PF_know_185 : decode b_PF_know 185 = .ok (.getfield 76, 3) := by decide +kernel
theorem d_PF_know_188 : decode b_PF_know 188 = .ok (.if_icmp .ge 46, 3) := by decide +kernel
theorem d_PF_know_191 : decode b_PF_know 191 = .ok (.aload_n 0, 1) := by decide +kernel
theorem d_PF_know_192 : decode b_PF_know 192 = .ok (.getfield 45, 3) := by decide +kernel
theorem d_PF_know_195 : decode b_PF_know 195 = .ok (.iload_n 1, 1) := by decide +kernel
theorem d_PF_know_196 : decode b_PF_know 196 = .ok (.baload, 1) := by decide +kernel
theorem d_PF_know_197 : decode b_PF_know 197 = .ok (.ifCond .ne 6, 3) := by decide +kernel
theorem d_PF_know_200 : decode b_PF_know 200 = .ok (.goto 28, 3) := by decide +kernel
theorem d_PF_know_203 : decode b_PF_know 203 = .ok (.aload_n 0, 1) := by decide +kernel
theorem d_PF_know_204 : decode b_PF_know 204 = .ok (.iload_n 1, 1) := by decide +kernel
theorem d_PF_know_205 : decode b_PF_know 205 = .ok (.invokevirtual 110, 3) := by decide +kernel
theorem d_PF_know_208 : decode b_PF_know 208 = .ok (.aload_n 0, 1) := by decide +kernel
theorem d_PF_know_209 : decode b_PF_know 209 = .ok (.aload_n 0, 1) := by decide +kernel
theorem d_PF_know_210 : decode b_PF_know 210 = .ok (.getfield 30, 3) := by decide +kernel
theorem d_PF_know_213 : decode b_PF_know 213 = .ok (.iload_n 1, 1) := by decide +kernel
theorem d_PF_know_214 : decode b_PF_know 214 = .ok (.iaload, 1) := by decide +kernel
theorem d_PF_know_215 : decode b_PF_know 215 = .ok (.invokevirtual 106, 3) := by decide +kernel
theorem d_PF_know_218 : decode b_PF_know 218 = .ok (.aload_n 0, 1) := by decide +kernel
theorem d_PF_know_219 : decode b_PF_know 219 = .ok (.aload_n 0, 1) := by decide +kernel
theorem d_PF_know_220 : decode b_PF_know 220 = .ok (.getfield 33, 3) := by decide +kernel
theorem d_PF_know_223 : decode b_PF_know 223 = .ok (.iload_n 1, 1) := by decide +kernel
theorem d_PF_know_224 : decode b_PF_know 224 = .ok (.iaload, 1) := by decide +kernel
theorem d_PF_know_225 : decode b_PF_know 225 = .ok (.invokevirtual 106, 3) := by decide +kernel
theorem d_PF_know_228 : decode b_PF_know 228 = .ok (.iinc 1 1, 3) := by decide +kernel
theorem d_PF_know_231 : decode b_PF_know 231 = .ok (.goto (-48), 3) := by decide +kernel
theorem d_PF_know_234 : decode b_PF_know 234 = .ok (.goto (-65), 3) := by decide +kernel
theorem d_PF_know_237 : decode b_PF_know 237 = .ok (.return_, 1) := by decide +kernel
theorem d_PF_isReached_0 : decode b_PF_isReached 0 = .ok (.aload_n 0, 1) := by decide +kernel
theorem d_PF_isReached_1 : decode b_PF_isReached 1 = .ok (.invokevirtual 113, 3) := by decide +kernel
theorem d_PF_isReached_4 : decode b_PF_isReached 4 = .ok (.aload_n 0, 1) := by decide +kernel
theorem d_PF_isReached_5 : decode b_PF_isReached 5 = .ok (.iload_n 1, 1) := by decide +kernel
theorem d_PF_isReached_6 : decode b_PF_isReached 6 = .ok (.invokevirtual 80, 3) := by decide +kernel
theorem d_PF_isReached_9 : decode b_PF_isReached 9 = .ok (.ifCond .eq 16, 3) := by decide +kernel
theorem d_PF_isReached_12 : decode b_PF_isReached 12 = .ok (.aload_n 0, 1) := by decide +kernel
theorem d_PF_isReached_13 : decode b_PF_isReached 13 = .ok (.getfield 45, 3) := by decide +kernel
theorem d_PF_isReached_16 : decode b_PF_isReached 16 = .ok (.iload_n 1, 1) := by decide +kernel
theorem d_PF_isReached_17 : decode b_PF_isReached 17 = .ok (.baload, 1) := by decide +kernel
theorem d_PF_isReached_18 : decode b_PF_isReached 18 = .ok (.ifCond .eq 7, 3) := by decide +kernel
theorem d_PF_isReached_21 : decode b_PF_isReached 21 = .ok (.iconst 1, 1) := by decide +kernel
theorem d_PF_isReached_22 : decode b_PF_isReached 22 = .ok (.goto 4, 3) := by decide +kernel
theorem d_PF_isReached_25 : decode b_PF_isReached 25 = .ok (.iconst 0, 1) := by decide +kernel
theorem d_PF_isReached_26 : decode b_PF_isReached 26 = .ok (.ireturn, 1) := by decide +kernel
theorem d_PF_without_0 : decode b_PF_without 0 = .ok (.aload_n 0, 1) := by decide +kernel
theorem d_PF_without_1 : decode b_PF_without 1 = .ok (.invokevirtual 113, 3) := by decide +kernel
theorem d_PF_without_4 : decode b_PF_without 4 = .ok (.aload_n 0, 1) := by decide +kernel
theorem d_PF_without_5 : decode b_PF_without 5 = .ok (.iload_n 1, 1) := by decide +kernel
theorem d_PF_without_6 : decode b_PF_without 6 = .ok (.invokevirtual 80, 3) := by decide +kernel
theorem d_PF_without_9 : decode b_PF_without 9 = .ok (.ifCond .eq 43, 3) := by decide +kernel
theorem d_PF_without_12 : decode b_PF_without 12 = .ok (.aload_n 0, 1) := by decide +kernel
theorem d_PF_without_13 : decode b_PF_without 13 = .ok (.getfield 10, 3) := by decide +kernel
theorem d_PF_without_16 : decode b_PF_without 16 = .ok (.iload_n 2, 1) := by decide +kernel
theorem d_PF_without_17 : decode b_PF_without 17 = .ok (.invokevirtual 65, 3) := by decide +kernel
theorem d_PF_without_20 : decode b_PF_without 20 = .ok (.ifCond .eq 32, 3) := by decide +kernel
theorem d_PF_without_23 : decode b_PF_without 23 = .ok (.aload_n 0, 1) := by decide +kernel
theorem d_PF_without_24 : decode b_PF_without 24 = .ok (.getfield 38, 3) := by decide +kernel
theorem d_PF_without_27 : decode b_PF_without 27 = .ok (.iload_n 1, 1) := by decide +kernel
theorem d_PF_without_28 : decode b_PF_without 28 = .ok (.aaload, 1) := by decide +kernel
theorem d_PF_without_29 : decode b_PF_without 29 = .ok (.aload_n 0, 1) := by decide +kernel
theorem d_PF_without_30 : decode b_PF_without 30 = .ok (.getfield 10, 3) := by decide +kernel
theorem d_PF_without_33 : decode b_PF_without 33 = .ok (.getfield 94, 3) := by decide +kernel
theorem d_PF_without_36 : decode b_PF_without 36 = .ok (.iload_n 2, 1) := by decide +kernel
theorem d_PF_without_37 : decode b_PF_without 37 = .ok (.iaload, 1) := by decide +kernel
theorem d_PF_without_38 : decode b_PF_without 38 = .ok (.aload_n 0, 1) := by decide +kernel
theorem d_PF_without_39 : decode b_PF_without 39 = .ok (.getfield 10, 3) := by decide +kernel
theorem d_PF_without_42 : decode b_PF_without 42 = .ok (.iload_n 2, 1) := by decide +kernel
theorem d_PF_without_43 : decode b_PF_without 43 = .ok (.invokevirtual 69, 3) := by decide +kernel
theorem d_PF_without_46 : decode b_PF_without 46 = .ok (.invokevirtual 116, 3) := by decide +kernel
theorem d_PF_without_49 : decode b_PF_without 49 = .ok (.goto 4, 3) := by decide +kernel
theorem d_PF_without_52 : decode b_PF_without 52 = .ok (.iconst 0, 1) := by decide +kernel
theorem d_PF_without_53 : decode b_PF_without 53 = .ok (.ireturn, 1) := by decide +kernel
theorem d_PF_having_0 : decode b_PF_having 0 = .ok (.aload_n 0, 1) := by decide +kernel
theorem d_PF_having_1 : decode b_PF_having 1 = .ok (.invokevirtual 113, 3) := by decide +kernel
theorem d_PF_having_4 : decode b_PF_having 4 = .ok (.aload_n 0, 1) := by decide +kernel
theorem d_PF_having_5 : decode b_PF_having 5 = .ok (.iload_n 1, 1) := by decide +kernel
theorem d_PF_having_6 : decode b_PF_having 6 = .ok (.invokevirtual 80, 3) := by decide +kernel
theorem d_PF_having_9 : decode b_PF_having 9 = .ok (.ifCond .eq 43, 3) := by decide +kernel
theorem d_PF_having_12 : decode b_PF_having 12 = .ok (.aload_n 0, 1) := by decide +kernel
theorem d_PF_having_13 : decode b_PF_having 13 = .ok (.getfield 10, 3) := by decide +kernel
theorem d_PF_having_16 : decode b_PF_having 16 = .ok (.iload_n 2, 1) := by decide +kernel
theorem d_PF_having_17 : decode b_PF_having 17 = .ok (.invokevirtual 65, 3) := by decide +kernel
theorem d_PF_having_20 : decode b_PF_having 20 = .ok (.ifCond .eq 32, 3) := by decide +kernel
theorem d_PF_having_23 : decode b_PF_having 23 = .ok (.aload_n 0, 1) := by decide +kernel
theorem d_PF_having_24 : decode b_PF_having 24 = .ok (.getfield 42, 3) := by decide +kernel
theorem d_PF_having_27 : decode b_PF_having 27 = .ok (.iload_n 1, 1) := by decide +kernel
theorem d_PF_having_28 : decode b_PF_having 28 = .ok (.aaload, 1) := by decide +kernel
theorem d_PF_having_29 : decode b_PF_having 29 = .ok (.aload_n 0, 1) := by decide +kernel
theorem d_PF_having_30 : decode b_PF_having 30 = .ok (.getfield 10, 3) := by decide +kernel
theorem d_PF_having_33 : decode b_PF_having 33 = .ok (.getfield 94, 3) := by decide +kernel
theorem d_PF_having_36 : decode b_PF_having 36 = .ok (.iload_n 2, 1) := by decide +kernel
theorem d_PF_having_37 : decode b_PF_having 37 = .ok (.iaload, 1) := by decide +kernel
theorem d_PF_having_38 : decode b_PF_having 38 = .ok (.aload_n 0, 1) := by decide +kernel
theorem d_PF_having_39 : decode b_PF_having 39 = .ok (.getfield 10, 3) := by decide +kernel
theorem d_PF_having_42 : decode b_PF_having 42 = .ok (.iload_n 2, 1) := by decide +kernel
theorem d_PF_having_43 : decode b_PF_having 43 = .ok (.invokevirtual 69, 3) := by decide +kernel
theorem d_PF_having_46 : decode b_PF_having 46 = .ok (.invokevirtual 116, 3) := by decide +kernel
theorem d_PF_having_49 : decode b_PF_having 49 = .ok (.goto 4, 3) := by decide +kernel
theorem d_PF_having_52 : decode b_PF_having 52 = .ok (.iconst 0, 1) := by decide +kernel
theorem d_PF_having_53 : decode b_PF_having 53 = .ok (.ireturn, 1) := by decide +kernel
end
section
theorem d_PF_fault_0 : decode b_PF_fault 0 = .ok (.aload_n 0, 1) := by decide +kernel
theorem d_PF_fault_1 : decode b_PF_fault 1 = .ok (.invokevirtual 113, 3) := by decide +kernel
theorem d_PF_fault_4 : decode b_PF_fault 4 = .ok (.aload_n 0, 1) := by decide +kernel
theorem d_PF_fault_5 : decode b_PF_fault 5 = .ok (.iload_n 1, 1) := by decide +kernel
theorem d_PF_fault_6 : decode b_PF_fault 6 = .ok (.invokevirtual 80, 3) := by decide +kernel
theorem d_PF_fault_9 : decode b_PF_fault 9 = .ok (.ifCond .ne 5, 3) := by decide +kernel
theorem d_PF_fault_12 : decode b_PF_fault 12 = .ok (.iconst (-1), 1) := by decide +kernel
theorem d_PF_fault_13 : decode b_PF_fault 13 = .ok (.ireturn, 1) := by decide +kernel
theorem d_PF_fault_14 : decode b_PF_fault 14 = .ok (.aload_n 0, 1) := by decide +kernel
theorem d_PF_fault_15 : decode b_PF_fault 15 = .ok (.getfield 45, 3) := by decide +kernel
theorem d_PF_fault_18 : decode b_PF_fault 18 = .ok (.iload_n 1, 1) := by decide +kernel
theorem d_PF_fault_19 : decode b_PF_fault 19 = .ok (.baload, 1) := by decide +kernel
theorem d_PF_fault_20 : decode b_PF_fault 20 = .ok (.ifCond .eq 12, 3) := by decide +kernel
theorem d_PF_fault_23 : decode b_PF_fault 23 = .ok (.aload_n 0, 1) := by decide +kernel
theorem d_PF_fault_24 : decode b_PF_fault 24 = .ok (.getfield 16, 3) := by decide +kernel
theorem d_PF_fault_27 : decode b_PF_fault 27 = .ok (.iload_n 1, 1) := by decide +kernel
theorem d_PF_fault_28 : decode b_PF_fault 28 = .ok (.baload, 1) := by decide +kernel
theorem d_PF_fault_29 : decode b_PF_fault 29 = .ok (.ifCond .ne 5, 3) := by decide +kernel
theorem d_PF_fault_32 : decode b_PF_fault 32 = .ok (.iconst 0, 1) := by decide +kernel
theorem d_PF_fault_33 : decode b_PF_fault 33 = .ok (.ireturn, 1) := by decide +kernel
theorem d_PF_fault_34 : decode b_PF_fault 34 = .ok (.aload_n 0, 1) := by decide +kernel
theorem d_PF_fault_35 : decode b_PF_fault 35 = .ok (.getfield 20, 3) := by decide +kernel
theorem d_PF_fault_38 : decode b_PF_fault 38 = .ok (.iload_n 1, 1) := by decide +kernel
theorem d_PF_fault_39 : decode b_PF_fault 39 = .ok (.iaload, 1) := by decide +kernel
theorem d_PF_fault_40 : decode b_PF_fault 40 = .ok (.istore_n 2, 1) := by decide +kernel
theorem d_PF_fault_41 : decode b_PF_fault 41 = .ok (.aload_n 0, 1) := by decide +kernel
theorem d_PF_fault_42 : decode b_PF_fault 42 = .ok (.getfield 10, 3) := by decide +kernel
theorem d_PF_fault_45 : decode b_PF_fault 45 = .ok (.getfield 94, 3) := by decide +kernel
theorem d_PF_fault_48 : decode b_PF_fault 48 = .ok (.iload_n 2, 1) := by decide +kernel
theorem d_PF_fault_49 : decode b_PF_fault 49 = .ok (.iaload, 1) := by decide +kernel
theorem d_PF_fault_50 : decode b_PF_fault 50 = .ok (.aload_n 0, 1) := by decide +kernel
theorem d_PF_fault_51 : decode b_PF_fault 51 = .ok (.getfield 24, 3) := by decide +kernel
theorem d_PF_fault_54 : decode b_PF_fault 54 = .ok (.iload_n 1, 1) := by decide +kernel
theorem d_PF_fault_55 : decode b_PF_fault 55 = .ok (.iaload, 1) := by decide +kernel
theorem d_PF_fault_56 : decode b_PF_fault 56 = .ok (.iadd, 1) := by decide +kernel
theorem d_PF_fault_57 : decode b_PF_fault 57 = .ok (.istore_n 3, 1) := by decide +kernel
theorem d_PF_fault_58 : decode b_PF_fault 58 = .ok (.aload_n 0, 1) := by decide +kernel
theorem d_PF_fault_59 : decode b_PF_fault 59 = .ok (.getfield 16, 3) := by decide +kernel
theorem d_PF_fault_62 : decode b_PF_fault 62 = .ok (.iload_n 1, 1) := by decide +kernel
theorem d_PF_fault_63 : decode b_PF_fault 63 = .ok (.baload, 1) := by decide +kernel
theorem d_PF_fault_64 : decode b_PF_fault 64 = .ok (.iconst 2, 1) := by decide +kernel
theorem d_PF_fault_65 : decode b_PF_fault 65 = .ok (.if_icmp .eq 13, 3) := by decide +kernel
theorem d_PF_fault_68 : decode b_PF_fault 68 = .ok (.aload_n 0, 1) := by decide +kernel
theorem d_PF_fault_69 : decode b_PF_fault 69 = .ok (.getfield 16, 3) := by decide +kernel
theorem d_PF_fault_72 : decode b_PF_fault 72 = .ok (.iload_n 1, 1) := by decide +kernel
theorem d_PF_fault_73 : decode b_PF_fault 73 = .ok (.baload, 1) := by decide +kernel
theorem d_PF_fault_74 : decode b_PF_fault 74 = .ok (.iconst 3, 1) := by decide +kernel
theorem d_PF_fault_75 : decode b_PF_fault 75 = .ok (.if_icmp .ne 28, 3) := by decide +kernel
theorem d_PF_fault_78 : decode b_PF_fault 78 = .ok (.aload_n 0, 1) := by decide +kernel
theorem d_PF_fault_79 : decode b_PF_fault 79 = .ok (.getfield 38, 3) := by decide +kernel
theorem d_PF_fault_82 : decode b_PF_fault 82 = .ok (.iload_n 1, 1) := by decide +kernel
theorem d_PF_fault_83 : decode b_PF_fault 83 = .ok (.aaload, 1) := by decide +kernel
theorem d_PF_fault_84 : decode b_PF_fault 84 = .ok (.iload_n 3, 1) := by decide +kernel
theorem d_PF_fault_85 : decode b_PF_fault 85 = .ok (.aload_n 0, 1) := by decide +kernel
theorem d_PF_fault_86 : decode b_PF_fault 86 = .ok (.getfield 27, 3) := by decide +kernel
theorem d_PF_fault_89 : decode b_PF_fault 89 = .ok (.iload_n 1, 1) := by decide +kernel
theorem d_PF_fault_90 : decode b_PF_fault 90 = .ok (.iaload, 1) := by decide +kernel
theorem d_PF_fault_91 : decode b_PF_fault 91 = .ok (.invokevirtual 116, 3) := by decide +kernel
theorem d_PF_fault_94 : decode b_PF_fault 94 = .ok (.ifCond .eq 7, 3) := by decide +kernel
theorem d_PF_fault_97 : decode b_PF_fault 97 = .ok (.iconst 1, 1) := by decide +kernel
theorem d_PF_fault_98 : decode b_PF_fault 98 = .ok (.goto 4, 3) := by decide +kernel
theorem d_PF_fault_101 : decode b_PF_fault 101 = .ok (.iconst 0, 1) := by decide +kernel
theorem d_PF_fault_102 : decode b_PF_fault 102 = .ok (.ireturn, 1) := by decide +kernel
theorem d_PF_fault_103 : decode b_PF_fault 103 = .ok (.aload_n 0, 1) := by decide +kernel
theorem d_PF_fault_104 : decode b_PF_fault 104 = .ok (.getfield 16, 3) := by decide +kernel
theorem d_PF_fault_107 : decode b_PF_fault 107 = .ok (.iload_n 1, 1) := by decide +kernel
theorem d_PF_fault_108 : decode b_PF_fault 108 = .ok (.baload, 1) := by decide +kernel
theorem d_PF_fault_109 : decode b_PF_fault 109 = .ok (.iconst 1, 1) := by decide +kernel
theorem d_PF_fault_110 : decode b_PF_fault 110 = .ok (.if_icmp .ne 15, 3) := by decide +kernel
theorem d_PF_fault_113 : decode b_PF_fault 113 = .ok (.aload_n 0, 1) := by decide +kernel
theorem d_PF_fault_114 : decode b_PF_fault 114 = .ok (.getfield 10, 3) := by decide +kernel
theorem d_PF_fault_117 : decode b_PF_fault 117 = .ok (.getfield 120, 3) := by decide +kernel
theorem d_PF_fault_120 : decode b_PF_fault 120 = .ok (.iload_n 2, 1) := by decide +kernel
theorem d_PF_fault_121 : decode b_PF_fault 121 = .ok (.baload, 1) := by decide +kernel
theorem d_PF_fault_122 : decode b_PF_fault 122 = .ok (.ifCond .ne 5, 3) := by decide +kernel
theorem d_PF_fault_125 : decode b_PF_fault 125 = .ok (.iconst 0, 1) := by decide +kernel
theorem d_PF_fault_126 : decode b_PF_fault 126 = .ok (.ireturn, 1) := by decide +kernel
theorem d_PF_fault_127 : decode b_PF_fault 127 = .ok (.aload_n 0, 1) := by decide +kernel
theorem d_PF_fault_128 : decode b_PF_fault 128 = .ok (.getfield 27, 3) := by decide +kernel
theorem d_PF_fault_131 : decode b_PF_fault 131 = .ok (.iload_n 1, 1) := by decide +kernel
theorem d_PF_fault_132 : decode b_PF_fault 132 = .ok (.iaload, 1) := by decide +kernel
theorem d_PF_fault_133 : decode b_PF_fault 133 = .ok (.aload_n 0, 1) := by decide +kernel
theorem d_PF_fault_134 : decode b_PF_fault 134 = .ok (.getfield 10, 3) := by decide +kernel
theorem d_PF_fault_137 : decode b_PF_fault 137 = .ok (.iload_n 2, 1) := by decide +kernel
theorem d_PF_fault_138 : decode b_PF_fault 138 = .ok (.invokevirtual 69, 3) := by decide +kernel
theorem d_PF_fault_141 : decode b_PF_fault 141 = .ok (.if_icmp .ge 5, 3) := by decide +kernel
theorem d_PF_fault_144 : decode b_PF_fault 144 = .ok (.iconst 3, 1) := by decide +kernel
theorem d_PF_fault_145 : decode b_PF_fault 145 = .ok (.ireturn, 1) := by decide +kernel
theorem d_PF_fault_146 : decode b_PF_fault 146 = .ok (.aload_n 0, 1) := by decide +kernel
theorem d_PF_fault_147 : decode b_PF_fault 147 = .ok (.getfield 42, 3) := by decide +kernel
theorem d_PF_fault_150 : decode b_PF_fault 150 = .ok (.iload_n 1, 1) := by decide +kernel
theorem d_PF_fault_151 : decode b_PF_fault 151 = .ok (.aaload, 1) := by decide +kernel
theorem d_PF_fault_152 : decode b_PF_fault 152 = .ok (.iload_n 3, 1) := by decide +kernel
theorem d_PF_fault_153 : decode b_PF_fault 153 = .ok (.aload_n 0, 1) := by decide +kernel
theorem d_PF_fault_154 : decode b_PF_fault 154 = .ok (.getfield 27, 3) := by decide +kernel
theorem d_PF_fault_157 : decode b_PF_fault 157 = .ok (.iload_n 1, 1) := by decide +kernel
theorem d_PF_fault_158 : decode b_PF_fault 158 = .ok (.iaload, 1) := by decide +kernel
theorem d_PF_fault_159 : decode b_PF_fault 159 = .ok (.invokevirtual 116, 3) := by decide +kernel
theorem d_PF_fault_162 : decode b_PF_fault 162 = .ok (.ifCond .eq 7, 3) := by decide +kernel
theorem d_PF_fault_165 : decode b_PF_fault 165 = .ok (.iconst 2, 1) := by decide +kernel
theorem d_PF_fault_166 : decode b_PF_fault 166 = .ok (.goto 4, 3) := by decide +kernel
theorem d_PF_fault_169 : decode b_PF_fault 169 = .ok (.iconst 0, 1) := by decide +kernel
theorem d_PF_fault_170 : decode b_PF_fault 170 = .ok (.ireturn, 1) := by decide +kernel
theorem d_PF_count_0 : decode b_PF_count 0 = .ok (.iload_n 1, 1) := by decide +kernel
theorem d_PF_count_1 : decode b_PF_count 1 = .ok (.ifCond .lt 8, 3) := by decide +kernel
theorem d_PF_count_4 : decode b_PF_count 4 = .ok (.iload_n 1, 1) := by decide +kernel
theorem d_PF_count_5 : decode b_PF_count 5 = .ok (.iconst 5, 1) := by decide +kernel
theorem d_PF_count_6 : decode b_PF_count 6 = .ok (.if_icmp .le 5, 3) := by decide +kernel
theorem d_PF_count_9 : decode b_PF_count 9 = .ok (.iconst (-1), 1) := by decide +kernel
theorem d_PF_count_10 : decode b_PF_count 10 = .ok (.ireturn, 1) := by decide +kernel
theorem d_PF_count_11 : decode b_PF_count 11 = .ok (.iload_n 1, 1) := by decide +kernel
theorem d_PF_count_12 : decode b_PF_count 12 = .ok (.ifCond .ne 8, 3) := by decide +kernel
theorem d_PF_count_15 : decode b_PF_count 15 = .ok (.aload_n 0, 1) := by decide +kernel
theorem d_PF_count_16 : decode b_PF_count 16 = .ok (.getfield 76, 3) := by decide +kernel
theorem d_PF_count_19 : decode b_PF_count 19 = .ok (.ireturn, 1) := by decide +kernel
theorem d_PF_count_20 : decode b_PF_count 20 = .ok (.iload_n 1, 1) := by decide +kernel
theorem d_PF_count_21 : decode b_PF_count 21 = .ok (.iconst 3, 1) := by decide +kernel
theorem d_PF_count_22 : decode b_PF_count 22 = .ok (.if_icmp .le 34, 3) := by decide +kernel
theorem d_PF_count_25 : decode b_PF_count 25 = .ok (.iload_n 1, 1) := by decide +kernel
theorem d_PF_count_26 : decode b_PF_count 26 = .ok (.iconst 4, 1) := by decide +kernel
theorem d_PF_count_27 : decode b_PF_count 27 = .ok (.if_icmp .ne 13, 3) := by decide +kernel
theorem d_PF_count_30 : decode b_PF_count 30 = .ok (.aload_n 0, 1) := by decide +kernel
theorem d_PF_count_31 : decode b_PF_count 31 = .ok (.getfield 10, 3) := by decide +kernel
theorem d_PF_count_34 : decode b_PF_count 34 = .ok (.getfield 102, 3) := by decide +kernel
theorem d_PF_count_37 : decode b_PF_count 37 = .ok (.goto 18, 3) := by decide +kernel
theorem d_PF_count_40 : decode b_PF_count 40 = .ok (.aload_n 0, 1) := by decide +kernel
theorem d_PF_count_41 : decode b_PF_count 41 = .ok (.getfield 10, 3) := by decide +kernel
theorem d_PF_count_44 : decode b_PF_count 44 = .ok (.getfield 94, 3) := by decide +kernel
theorem d_PF_count_47 : decode b_PF_count 47 = .ok (.aload_n 0, 1) := by decide +kernel
theorem d_PF_count_48 : decode b_PF_count 48 = .ok (.getfield 10, 3) := by decide +kernel
theorem d_PF_count_51 : decode b_PF_count 51 = .ok (.getfield 102, 3) := by decide +kernel
theorem d_PF_count_54 : decode b_PF_count 54 = .ok (.iaload, 1) := by decide +kernel
theorem d_PF_count_55 : decode b_PF_count 55 = .ok (.ireturn, 1) := by decide +kernel
theorem d_PF_count_56 : decode b_PF_count 56 = .ok (.aload_n 0, 1) := by decide +kernel
theorem d_PF_count_57 : decode b_PF_count 57 = .ok (.invokevirtual 113, 3) := by decide +kernel
theorem d_PF_count_60 : decode b_PF_count 60 = .ok (.iconst 0, 1) := by decide +kernel
theorem d_PF_count_61 : decode b_PF_count 61 = .ok (.istore_n 2, 1) := by decide +kernel
theorem d_PF_count_62 : decode b_PF_count 62 = .ok (.iconst (-1), 1) := by decide +kernel
theorem d_PF_count_63 : decode b_PF_count 63 = .ok (.istore_n 3, 1) := by decide +kernel
theorem d_PF_count_64 : decode b_PF_count 64 = .ok (.aload_n 0, 1) := by decide +kernel
theorem d_PF_count_65 : decode b_PF_count 65 = .ok (.getfield 76, 3) := by decide +kernel
theorem d_PF_count_68 : decode b_PF_count 68 = .ok (.iconst 1, 1) := by decide +kernel
theorem d_PF_count_69 : decode b_PF_count 69 = .ok (.isub, 1) := by decide +kernel
theorem d_PF_count_70 : decode b_PF_count 70 = .ok (.istore 4, 2) := by decide +kernel
theorem d_PF_count_72 : decode b_PF_count 72 = .ok (.iload 4, 2) := by decide +kernel
theorem d_PF_count_74 : decode b_PF_count 74 = .ok (.ifCond .lt 65, 3) := by decide +kernel
theorem d_PF_count_77 : decode b_PF_count 77 = .ok (.iload_n 1, 1) := by decide +kernel
theorem d_PF_count_78 : decode b_PF_count 78 = .ok (.iconst 1, 1) := by decide +kernel
theorem d_PF_count_79 : decode b_PF_count 79 = .ok (.if_icmp .ne 13, 3) := by decide +kernel
theorem d_PF_count_82 : decode b_PF_count 82 = .ok (.aload_n 0, 1) := by decide +kernel
theorem d_PF_count_83 : decode b_PF_count 83 = .ok (.getfield 45, 3) := by decide +kernel
theorem d_PF_count_86 : decode b_PF_count 86 = .ok (.iload 4, 2) := by decide +kernel
theorem d_PF_count_88 : decode b_PF_count 88 = .ok (.baload, 1) := by decide +kernel
theorem d_PF_count_89 : decode b_PF_count 89 = .ok (.goto 17, 3) := by decide +kernel
theorem d_PF_count_92 : decode b_PF_count 92 = .ok (.aload_n 0, 1) := by decide +kernel
theorem d_PF_count_93 : decode b_PF_count 93 = .ok (.iload 4, 2) := by decide +kernel
theorem d_PF_count_95 : decode b_PF_count 95 = .ok (.invokevirtual 123, 3) := by decide +kernel
theorem d_PF_count_98 : decode b_PF_count 98 = .ok (.ifCond .le 7, 3) := by decide +kernel
theorem d_PF_count_101 : decode b_PF_count 101 = .ok (.iconst 1, 1) := by decide +kernel
theorem d_PF_count_102 : decode b_PF_count 102 = .ok (.goto 4, 3) := by decide +kernel
theorem d_PF_count_105 : decode b_PF_count 105 = .ok (.iconst 0, 1) := by decide +kernel
theorem d_PF_count_106 : decode b_PF_count 106 = .ok (.istore 5, 2) := by decide +kernel
theorem d_PF_count_108 : decode b_PF_count 108 = .ok (.iload_n 2, 1) := by decide +kernel
theorem d_PF_count_109 : decode b_PF_count 109 = .ok (.iload 5, 2) := by decide +kernel
theorem d_PF_count_111 : decode b_PF_count 111 = .ok (.ifCond .eq 7, 3) := by decide +kernel
theorem d_PF_count_114 : decode b_PF_count 114 = .ok (.iconst 1, 1) := by decide +kernel
theorem d_PF_count_115 : decode b_PF_count 115 = .ok (.goto 4, 3) := by decide +kernel
theorem d_PF_count_118 : decode b_PF_count 118 = .ok (.iconst 0, 1) := by decide +kernel
theorem d_PF_count_119 : decode b_PF_count 119 = .ok (.iadd, 1) := by decide +kernel
theorem d_PF_count_120 : decode b_PF_count 120 = .ok (.istore_n 2, 1) := by decide +kernel
theorem d_PF_count_121 : decode b_PF_count 121 = .ok (.iload 5, 2) := by decide +kernel
theorem d_PF_count_123 : decode b_PF_count 123 = .ok (.ifCond .eq 8, 3) := by decide +kernel
theorem d_PF_count_126 : decode b_PF_count 126 = .ok (.iload 4, 2) := by decide +kernel
theorem d_PF_count_128 : decode b_PF_count 128 = .ok (.goto 4, 3) := by decide +kernel
theorem d_PF_count_131 : decode b_PF_count 131 = .ok (.iload_n 3, 1) := by decide +kernel
theorem d_PF_count_132 : decode b_PF_count 132 = .ok (.istore_n 3, 1) := by decide +kernel
theorem d_PF_count_133 : decode b_PF_count 133 = .ok (.iinc 4 (-1), 3) := by decide +kernel
theorem d_PF_count_136 : decode b_PF_count 136 = .ok (.goto (-64), 3) := by decide +kernel
theorem d_PF_count_139 : decode b_PF_count 139 = .ok (.iload_n 1, 1) := by decide +kernel
theorem d_PF_count_140 : decode b_PF_count 140 = .ok (.iconst 3, 1) := by decide +kernel
theorem d_PF_count_141 : decode b_PF_count 141 = .ok (.if_icmp .ne 7, 3) := by decide +kernel
theorem d_PF_count_144 : decode b_PF_count 144 = .ok (.iload_n 3, 1) := by decide +kernel
theorem d_PF_count_145 : decode b_PF_count 145 = .ok (.goto 4, 3) := by decide +kernel
theorem d_PF_count_148 : decode b_PF_count 148 = .ok (.iload_n 2, 1) := by decide +kernel
theorem d_PF_count_149 : decode b_PF_count 149 = .ok (.ireturn, 1) := by decide +kernel
theorem d_PF_clear_0 : decode b_PF_clear 0 = .ok (.aload_n 0, 1) := by decide +kernel
theorem d_PF_clear_1 : decode b_PF_clear 1 = .ok (.getfield 76, 3) := by decide +kernel
theorem d_PF_clear_4 : decode b_PF_clear 4 = .ok (.istore_n 1, 1) := by decide +kernel
theorem d_PF_clear_5 : decode b_PF_clear 5 = .ok (.aload_n 0, 1) := by decide +kernel
theorem d_PF_clear_6 : decode b_PF_clear 6 = .ok (.iconst 0, 1) := by decide +kernel
theorem d_PF_clear_7 : decode b_PF_clear 7 = .ok (.putfield 76, 3) := by decide +kernel
theorem d_PF_clear_10 : decode b_PF_clear 10 = .ok (.aload_n 0, 1) := by decide +kernel
theorem d_PF_clear_11 : decode b_PF_clear 11 = .ok (.iconst 0, 1) := by decide +kernel
theorem d_PF_clear_12 : decode b_PF_clear 12 = .ok (.putfield 61, 3) := by decide +kernel
theorem d_PF_clear_15 : decode b_PF_clear 15 = .ok (.iload_n 1, 1) := by decide +kernel
theorem d_PF_clear_16 : decode b_PF_clear 16 = .ok (.ireturn, 1) := by decide +kernel
theorem d_PM_init_0 : decode b_PM_init 0 = .ok (.aload_n 0, 1) := by decide +kernel
theorem d_PM_init_1 : decode b_PM_init 1 = .ok (.invokespecial 1, 3) := by decide +kernel
theorem d_PM_init_4 : decode b_PM_init 4 = .ok (.aload_n 0, 1) := by decide +kernel
theorem d_PM_init_5 : decode b_PM_init 5 = .ok (.bipush 20, 2) := by decide +kernel
theorem d_PM_init_7 : decode b_PM_init 7 = .ok (.newarray .int, 2) := by decide +kernel
theorem d_PM_init_9 : decode b_PM_init 9 = .ok (.putfield 7, 3) := by decide +kernel
theorem d_PM_init_12 : decode b_PM_init 12 = .ok (.aload_n 0, 1) := by decide +kernel
theorem d_PM_init_13 : decode b_PM_init 13 = .ok (.bipush 20, 2) := by decide +kernel
theorem d_PM_init_15 : decode b_PM_init 15 = .ok (.newarray .boolean, 2) := by decide +kernel
theorem d_PM_init_17 : decode b_PM_init 17 = .ok (.putfield 13, 3) := by decide +kernel
theorem d_PM_init_20 : decode b_PM_init 20 = .ok (.aload_n 0, 1) := by decide +kernel
theorem d_PM_init_21 : decode b_PM_init 21 = .ok (.bipush 20, 2) := by decide +kernel
theorem d_PM_init_23 : decode b_PM_init 23 = .ok (.newarray .boolean, 2) := by decide +kernel
theorem d_PM_init_25 : decode b_PM_init 25 = .ok (.putfield 17, 3) := by decide +kernel
theorem d_PM_init_28 : decode b_PM_init 28 = .ok (.aload_n 0, 1) := by decide +kernel
theorem d_PM_init_29 : decode b_PM_init 29 = .ok (.bipush 120, 2) := by decide +kernel
theorem d_PM_init_31 : decode b_PM_init 31 = .ok (.newarray .int, 2) := by decide +kernel
theorem d_PM_init_33 : decode b_PM_init 33 = .ok (.putfield 20, 3) := by decide +kernel
theorem d_PM_init_36 : decode b_PM_init 36 = .ok (.aload_n 0, 1) := by decide +kernel
theorem d_PM_init_37 : decode b_PM_init 37 = .ok (.bipush 120, 2) := by decide +kernel
theorem d_PM_init_39 : decode b_PM_init 39 = .ok (.newarray .int, 2) := by decide +kernel
theorem d_PM_init_41 : decode b_PM_init 41 = .ok (.putfield 23, 3) := by decide +kernel
theorem d_PM_init_44 : decode b_PM_init 44 = .ok (.aload_n 0, 1) := by decide +kernel
theorem d_PM_init_45 : decode b_PM_init 45 = .ok (.bipush 120, 2) := by decide +kernel
theorem d_PM_init_47 : decode b_PM_init 47 = .ok (.newarray .int, 2) := by decide +kernel
theorem d_PM_init_49 : decode b_PM_init 49 = .ok (.putfield 26, 3) := by decide +kernel
theorem d_PM_init_52 : decode b_PM_init 52 = .ok (.aload_n 0, 1) := by decide +kernel
theorem d_PM_init_53 : decode b_PM_init 53 = .ok (.bipush 120, 2) := by decide +kernel
theorem d_PM_init_55 : decode b_PM_init 55 = .ok (.newarray .int, 2) := by decide +kernel
theorem d_PM_init_57 : decode b_PM_init 57 = .ok (.putfield 29, 3) := by decide +kernel
theorem d_PM_init_60 : decode b_PM_init 60 = .ok (.aload_n 0, 1) := by decide +kernel
theorem d_PM_init_61 : decode b_PM_init 61 = .ok (.bipush 120, 2) := by decide +kernel
theorem d_PM_init_63 : decode b_PM_init 63 = .ok (.newarray .int, 2) := by decide +kernel
theorem d_PM_init_65 : decode b_PM_init 65 = .ok (.putfield 32, 3) := by decide +kernel
theorem d_PM_init_68 : decode b_PM_init 68 = .ok (.aload_n 0, 1) := by decide +kernel
theorem d_PM_init_69 : decode b_PM_init 69 = .ok (.bipush 120, 2) := by decide +kernel
theorem d_PM_init_71 : decode b_PM_init 71 = .ok (.newarray .int, 2) := by decide +kernel
theorem d_PM_init_73 : decode b_PM_init 73 = .ok (.putfield 35, 3) := by decide +kernel
theorem d_PM_init_76 : decode b_PM_init 76 = .ok (.aload_n 0, 1) := by decide +kernel
theorem d_PM_init_77 : decode b_PM_init 77 = .ok (.sipush 240, 3) := by decide +kernel
theorem d_PM_init_80 : decode b_PM_init 80 = .ok (.newarray .boolean, 2) := by decide +kernel
theorem d_PM_init_82 : decode b_PM_init 82 = .ok (.putfield 38, 3) := by decide +kernel
theorem d_PM_init_85 : decode b_PM_init 85 = .ok (.aload_n 0, 1) := by decide +kernel
theorem d_PM_init_86 : decode b_PM_init 86 = .ok (.sipush 240, 3) := by decide +kernel
theorem d_PM_init_89 : decode b_PM_init 89 = .ok (.newarray .int, 2) := by decide +kernel
theorem d_PM_init_91 : decode b_PM_init 91 = .ok (.putfield 41, 3) := by decide +kernel
theorem d_PM_init_94 : decode b_PM_init 94 = .ok (.return_, 1) := by decide +kernel
theorem d_PM_isVariable_0 : decode b_PM_isVariable 0 = .ok (.iload_n 1, 1) := by decide +kernel
theorem d_PM_isVariable_1 : decode b_PM_isVariable 1 = .ok (.ifCond .lt 15, 3) := by decide +kernel
theorem d_PM_isVariable_4 : decode b_PM_isVariable 4 = .ok (.iload_n 1, 1) := by decide +kernel
theorem d_PM_isVariable_5 : decode b_PM_isVariable 5 = .ok (.aload_n 0, 1) := by decide +kernel
theorem d_PM_isVariable_6 : decode b_PM_isVariable 6 = .ok (.getfield 44, 3) := by decide +kernel
theorem d_PM_isVariable_9 : decode b_PM_isVariable 9 = .ok (.if_icmp .ge 7, 3) := by decide +kernel
theorem d_PM_isVariable_12 : decode b_PM_isVariable 12 = .ok (.iconst 1, 1) := by decide +kernel
theorem d_PM_isVariable_13 : decode b_PM_isVariable 13 = .ok (.goto 4, 3) := by decide +kernel
theorem d_PM_isVariable_16 : decode b_PM_isVariable 16 = .ok (.iconst 0, 1) := by decide +kernel
theorem d_PM_isVariable_17 : decode b_PM_isVariable 17 = .ok (.ireturn, 1) := by decide +kernel
theorem d_PM_isPoint_0 : decode b_PM_isPoint 0 = .ok (.iload_n 1, 1) := by decide +kernel
theorem d_PM_isPoint_1 : decode b_PM_isPoint 1 = .ok (.ifCond .lt 15, 3) := by decide +kernel
theorem d_PM_isPoint_4 : decode b_PM_isPoint 4 = .ok (.iload_n 1, 1) := by decide +kernel
theorem d_PM_isPoint_5 : decode b_PM_isPoint 5 = .ok (.aload_n 0, 1) := by decide +kernel
theorem d_PM_isPoint_6 : decode b_PM_isPoint 6 = .ok (.getfield 48, 3) := by decide +kernel
theorem d_PM_isPoint_9 : decode b_PM_isPoint 9 = .ok (.if_icmp .ge 7, 3) := by decide +kernel
theorem d_PM_isPoint_12 : decode b_PM_isPoint 12 = .ok (.iconst 1, 1) := by decide +kernel
theorem d_PM_isPoint_13 : decode b_PM_isPoint 13 = .ok (.goto 4, 3) := by decide +kernel
theorem d_PM_isPoint_16 : decode b_PM_isPoint 16 = .ok (.iconst 0, 1) := by decide +kernel
theorem d_PM_isPoint_17 : decode b_PM_isPoint 17 = .ok (.ireturn, 1) := by decide +kernel
theorem d_PM_variable_0 : decode b_PM_variable 0 = .ok (.iload_n 1, 1) := by decide +kernel
theorem d_PM_variable_1 : decode b_PM_variable 1 = .ok (.iconst 1, 1) := by decide +kernel
theorem d_PM_variable_2 : decode b_PM_variable 2 = .ok (.if_icmp .lt 18, 3) := by decide +kernel
theorem d_PM_variable_5 : decode b_PM_variable 5 = .ok (.iload_n 1, 1) := by decide +kernel
theorem d_PM_variable_6 : decode b_PM_variable 6 = .ok (.bipush 8, 2) := by decide +kernel
theorem d_PM_variable_8 : decode b_PM_variable 8 = .ok (.if_icmp .gt 12, 3) := by decide +kernel
theorem d_PM_variable_11 : decode b_PM_variable 11 = .ok (.aload_n 0, 1) := by decide +kernel
theorem d_PM_variable_12 : decode b_PM_variable 12 = .ok (.getfield 44, 3) := by decide +kernel
theorem d_PM_variable_15 : decode b_PM_variable 15 = .ok (.bipush 20, 2) := by decide +kernel
theorem d_PM_variable_17 : decode b_PM_variable 17 = .ok (.if_icmp .ne 5, 3) := by decide +kernel
theorem d_PM_variable_20 : decode b_PM_variable 20 = .ok (.iconst (-1), 1) := by decide +kernel
theorem d_PM_variable_21 : decode b_PM_variable 21 = .ok (.ireturn, 1) := by decide +kernel
theorem d_PM_variable_22 : decode b_PM_variable 22 = .ok (.aload_n 0, 1) := by decide +kernel
theorem d_PM_variable_23 : decode b_PM_variable 23 = .ok (.getfield 7, 3) := by decide +kernel
theorem d_PM_variable_26 : decode b_PM_variable 26 = .ok (.aload_n 0, 1) := by decide +kernel
theorem d_PM_variable_27 : decode b_PM_variable 27 = .ok (.getfield 44, 3) := by decide +kernel
theorem d_PM_variable_30 : decode b_PM_variable 30 = .ok (.iload_n 1, 1) := by decide +kernel
theorem d_PM_variable_31 : decode b_PM_variable 31 = .ok (.iastore, 1) := by decide +kernel
theorem d_PM_variable_32 : decode b_PM_variable 32 = .ok (.aload_n 0, 1) := by decide +kernel
theorem d_PM_variable_33 : decode b_PM_variable 33 = .ok (.getfield 13, 3) := by decide +kernel
theorem d_PM_variable_36 : decode b_PM_variable 36 = .ok (.aload_n 0, 1) := by decide +kernel
theorem d_PM_variable_37 : decode b_PM_variable 37 = .ok (.getfield 44, 3) := by decide +kernel
theorem d_PM_variable_40 : decode b_PM_variable 40 = .ok (.iload_n 2, 1) := by decide +kernel
theorem d_PM_variable_41 : decode b_PM_variable 41 = .ok (.bastore, 1) := by decide +kernel
theorem d_PM_variable_42 : decode b_PM_variable 42 = .ok (.aload_n 0, 1) := by decide +kernel
theorem d_PM_variable_43 : decode b_PM_variable 43 = .ok (.getfield 17, 3) := by decide +kernel
theorem d_PM_variable_46 : decode b_PM_variable 46 = .ok (.aload_n 0, 1) := by decide +kernel
theorem d_PM_variable_47 : decode b_PM_variable 47 = .ok (.getfield 44, 3) := by decide +kernel
theorem d_PM_variable_50 : decode b_PM_variable 50 = .ok (.iload_n 3, 1) := by decide +kernel
theorem d_PM_variable_51 : decode b_PM_variable 51 = .ok (.bastore, 1) := by decide +kernel
theorem d_PM_variable_52 : decode b_PM_variable 52 = .ok (.aload_n 0, 1) := by decide +kernel
theorem d_PM_variable_53 : decode b_PM_variable 53 = .ok (.dup, 1) := by decide +kernel
theorem d_PM_variable_54 : decode b_PM_variable 54 = .ok (.getfield 44, 3) := by decide +kernel
theorem d_PM_variable_57 : decode b_PM_variable 57 = .ok (.iconst 1, 1) := by decide +kernel
theorem d_PM_variable_58 : decode b_PM_variable 58 = .ok (.iadd, 1) := by decide +kernel
theorem d_PM_variable_59 : decode b_PM_variable 59 = .ok (.putfield 44, 3) := by decide +kernel
theorem d_PM_variable_62 : decode b_PM_variable 62 = .ok (.aload_n 0, 1) := by decide +kernel
theorem d_PM_variable_63 : decode b_PM_variable 63 = .ok (.getfield 44, 3) := by decide +kernel
theorem d_PM_variable_66 : decode b_PM_variable 66 = .ok (.iconst 1, 1) := by decide +kernel
theorem d_PM_variable_67 : decode b_PM_variable 67 = .ok (.isub, 1) := by decide +kernel
theorem d_PM_variable_68 : decode b_PM_variable 68 = .ok (.ireturn, 1) := by decide +kernel
theorem d_PM_point_0 : decode b_PM_point 0 = .ok (.iload_n 1, 1) := by decide +kernel
theorem d_PM_point_1 : decode b_PM_point 1 = .ok (.ifCond .lt 33, 3) := by decide +kernel
theorem d_PM_point_4 : decode b_PM_point 4 = .ok (.iload_n 1, 1) := by decide +kernel
theorem d_PM_point_5 : decode b_PM_point 5 = .ok (.iconst 5, 1) := by decide +kernel
theorem d_PM_point_6 : decode b_PM_point 6 = .ok (.if_icmp .gt 28, 3) := by decide +kernel
theorem d_PM_point_9 : decode b_PM_point 9 = .ok (.aload_n 0, 1) := by decide +kernel
theorem d_PM_point_10 : decode b_PM_point 10 = .ok (.getfield 48, 3) := by decide +kernel
theorem d_PM_point_13 : decode b_PM_point 13 = .ok (.bipush 120, 2) := by decide +kernel
theorem d_PM_point_15 : decode b_PM_point 15 = .ok (.if_icmp .ge 19, 3) := by decide +kernel
theorem d_PM_point_18 : decode b_PM_point 18 = .ok (.iload_n 1, 1) := by decide +kernel
theorem d_PM_point_19 : decode b_PM_point 19 = .ok (.ifCond .eq 11, 3) := by decide +kernel
theorem d_PM_point_22 : decode b_PM_point 22 = .ok (.aload_n 0, 1) := by decide +kernel
theorem d_PM_point_23 : decode b_PM_point 23 = .ok (.iload_n 2, 1) := by decide +kernel
theorem d_PM_point_24 : decode b_PM_point 24 = .ok (.invokevirtual 51, 3) := by decide +kernel
theorem d_PM_point_27 : decode b_PM_point 27 = .ok (.ifCond .eq 7, 3) := by decide +kernel
theorem d_PM_point_30 : decode b_PM_point 30 = .ok (.iconst 1, 1) := by decide +kernel
theorem d_PM_point_31 : decode b_PM_point 31 = .ok (.goto 4, 3) := by decide +kernel
theorem d_PM_point_34 : decode b_PM_point 34 = .ok (.iconst 0, 1) := by decide +kernel
theorem d_PM_point_35 : decode b_PM_point 35 = .ok (.istore 5, 2) := by decide +kernel
theorem d_PM_point_37 : decode b_PM_point 37 = .ok (.iload 5, 2) := by decide +kernel
theorem d_PM_point_39 : decode b_PM_point 39 = .ok (.ifCond .eq 53, 3) := by decide +kernel
theorem d_PM_point_42 : decode b_PM_point 42 = .ok (.iload_n 1, 1) := by decide +kernel
theorem d_PM_point_43 : decode b_PM_point 43 = .ok (.iconst 1, 1) := by decide +kernel
theorem d_PM_point_44 : decode b_PM_point 44 = .ok (.if_icmp .lt 44, 3) := by decide +kernel
theorem d_PM_point_47 : decode b_PM_point 47 = .ok (.iload_n 1, 1) := by decide +kernel
theorem d_PM_point_48 : decode b_PM_point 48 = .ok (.iconst 3, 1) := by decide +kernel
theorem d_PM_point_49 : decode b_PM_point 49 = .ok (.if_icmp .gt 39, 3) := by decide +kernel
theorem d_PM_point_52 : decode b_PM_point 52 = .ok (.iload_n 3, 1) := by decide +kernel
theorem d_PM_point_53 : decode b_PM_point 53 = .ok (.ifCond .lt 39, 3) := by decide +kernel
theorem d_PM_point_56 : decode b_PM_point 56 = .ok (.iload 4, 2) := by decide +kernel
theorem d_PM_point_58 : decode b_PM_point 58 = .ok (.iconst 1, 1) := by decide +kernel
theorem d_PM_point_59 : decode b_PM_point 59 = .ok (.if_icmp .lt 33, 3) := by decide +kernel
theorem d_PM_point_62 : decode b_PM_point 62 = .ok (.iload_n 3, 1) := by decide +kernel
theorem d_PM_point_63 : decode b_PM_point 63 = .ok (.bipush 8, 2) := by decide +kernel
theorem d_PM_point_65 : decode b_PM_point 65 = .ok (.if_icmp .ge 27, 3) := by decide +kernel
theorem d_PM_point_68 : decode b_PM_point 68 = .ok (.iload 4, 2) := by decide +kernel
theorem d_PM_point_70 : decode b_PM_point 70 = .ok (.bipush 8, 2) := by decide +kernel
theorem d_PM_point_72 : decode b_PM_point 72 = .ok (.if_icmp .gt 20, 3) := by decide +kernel
theorem d_PM_point_75 : decode b_PM_point 75 = .ok (.iload_n 3, 1) := by decide +kernel
theorem d_PM_point_76 : decode b_PM_point 76 = .ok (.iload 4, 2) := by decide +kernel
theorem d_PM_point_78 : decode b_PM_point 78 = .ok (.iadd, 1) := by decide +kernel
theorem d_PM_point_79 : decode b_PM_point 79 = .ok (.aload_n 0, 1) := by decide +kernel
theorem d_PM_point_80 : decode b_PM_point 80 = .ok (.getfield 7, 3) := by decide +kernel
theorem d_PM_point_83 : decode b_PM_point 83 = .ok (.iload_n 2, 1) := by decide +kernel
theorem d_PM_point_84 : decode b_PM_point 84 = .ok (.iaload, 1) := by decide +kernel
theorem d_PM_point_85 : decode b_PM_point 85 = .ok (.if_icmp .gt 7, 3) := by decide +kernel
theorem d_PM_point_88 : decode b_PM_point 88 = .ok (.iconst 1, 1) := by decide +kernel
theorem d_PM_point_89 : decode b_PM_point 89 = .ok (.goto 4, 3) := by decide +kernel
theorem d_PM_point_92 : decode b_PM_point 92 = .ok (.iconst 0, 1) := by decide +kernel
theorem d_PM_point_93 : decode b_PM_point 93 = .ok (.istore 5, 2) := by decide +kernel
theorem d_PM_point_95 : decode b_PM_point 95 = .ok (.iload 5, 2) := by decide +kernel
theorem d_PM_point_97 : decode b_PM_point 97 = .ok (.ifCond .ne 5, 3) := by decide +kernel
theorem d_PM_point_100 : decode b_PM_point 100 = .ok (.iconst (-1), 1) := by decide +kernel
theorem d_PM_point_101 : decode b_PM_point 101 = .ok (.ireturn, 1) := by decide +kernel
theorem d_PM_point_102 : decode b_PM_point 102 = .ok (.aload_n 0, 1) := by decide +kernel
theorem d_PM_point_103 : decode b_PM_point 103 = .ok (.getfield 20, 3) := by decide +kernel
theorem d_PM_point_106 : decode b_PM_point 106 = .ok (.aload_n 0, 1) := by decide +kernel
theorem d_PM_point_107 : decode b_PM_point 107 = .ok (.getfield 48, 3) := by decide +kernel
theorem d_PM_point_110 : decode b_PM_point 110 = .ok (.iload_n 1, 1) := by decide +kernel
theorem d_PM_point_111 : decode b_PM_point 111 = .ok (.iastore, 1) := by decide +kernel
theorem d_PM_point_112 : decode b_PM_point 112 = .ok (.aload_n 0, 1) := by decide +kernel
theorem d_PM_point_113 : decode b_PM_point 113 = .ok (.getfield 23, 3) := by decide +kernel
theorem d_PM_point_116 : decode b_PM_point 116 = .ok (.aload_n 0, 1) := by decide +kernel
theorem d_PM_point_117 : decode b_PM_point 117 = .ok (.getfield 48, 3) := by decide +kernel
theorem d_PM_point_120 : decode b_PM_point 120 = .ok (.iload_n 1, 1) := by decide +kernel
theorem d_PM_point_121 : decode b_PM_point 121 = .ok (.ifCond .ne 7, 3) := by decide +kernel
theorem d_PM_point_124 : decode b_PM_point 124 = .ok (.iconst (-1), 1) := by decide +kernel
theorem d_PM_point_125 : decode b_PM_point 125 = .ok (.goto 4, 3) := by decide +kernel
theorem d_PM_point_128 : decode b_PM_point 128 = .ok (.iload_n 2, 1) := by decide +kernel
theorem d_PM_point_129 : decode b_PM_point 129 = .ok (.iastore, 1) := by decide +kernel
theorem d_PM_point_130 : decode b_PM_point 130 = .ok (.aload_n 0, 1) := by decide +kernel
theorem d_PM_point_131 : decode b_PM_point 131 = .ok (.getfield 26, 3) := by decide +kernel
theorem d_PM_point_134 : decode b_PM_point 134 = .ok (.aload_n 0, 1) := by decide +kernel
theorem d_PM_point_135 : decode b_PM_point 135 = .ok (.getfield 48, 3) := by decide +kernel
theorem d_PM_point_138 : decode b_PM_point 138 = .ok (.iload_n 1, 1) := by decide +kernel
theorem d_PM_point_139 : decode b_PM_point 139 = .ok (.iconst 4, 1) := by decide +kernel
theorem d_PM_point_140 : decode b_PM_point 140 = .ok (.if_icmp .ge 7, 3) := by decide +kernel
theorem d_PM_point_143 : decode b_PM_point 143 = .ok (.iload_n 3, 1) := by decide +kernel
theorem d_PM_point_144 : decode b_PM_point 144 = .ok (.goto 4, 3) := by decide +kernel
theorem d_PM_point_147 : decode b_PM_point 147 = .ok (.iconst 0, 1) := by decide +kernel
theorem d_PM_point_148 : decode b_PM_point 148 = .ok (.iastore, 1) := by decide +kernel
theorem d_PM_point_149 : decode b_PM_point 149 = .ok (.aload_n 0, 1) := by decide +kernel
theorem d_PM_point_150 : decode b_PM_point 150 = .ok (.getfield 29, 3) := by decide +kernel
theorem d_PM_point_153 : decode b_PM_point 153 = .ok (.aload_n 0, 1) := by decide +kernel
theorem d_PM_point_154 : decode b_PM_point 154 = .ok (.getfield 48, 3) := by decide +kernel
theorem d_PM_point_157 : decode b_PM_point 157 = .ok (.iload_n 1, 1) := by decide +kernel
theorem d_PM_point_158 : decode b_PM_point 158 = .ok (.ifCond .ne 7, 3) := by decide +kernel
theorem d_PM_point_161 : decode b_PM_point 161 = .ok (.iconst 0, 1) := by decide +kernel
theorem d_PM_point_162 : decode b_PM_point 162 = .ok (.goto 19, 3) := by decide +kernel
theorem d_PM_point_165 : decode b_PM_point 165 = .ok (.iload_n 1, 1) := by decide +kernel
theorem d_PM_point_166 : decode b_PM_point 166 = .ok (.iconst 4, 1) := by decide +kernel
theorem d_PM_point_167 : decode b_PM_point 167 = .ok (.if_icmp .ge 8, 3) := by decide +kernel
theorem d_PM_point_170 : decode b_PM_point 170 = .ok (.iload 4, 2) := by decide +kernel
theorem d_PM_point_172 : decode b_PM_point 172 = .ok (.goto 9, 3) := by decide +kernel
theorem d_PM_point_175 : decode b_PM_point 175 = .ok (.aload_n 0, 1) := by decide +kernel
theorem d_PM_point_176 : decode b_PM_point 176 = .ok (.getfield 7, 3) := by decide +kernel
theorem d_PM_point_179 : decode b_PM_point 179 = .ok (.iload_n 2, 1) := by decide +kernel
theorem d_PM_point_180 : decode b_PM_point 180 = .ok (.iaload, 1) := by decide +kernel
theorem d_PM_point_181 : decode b_PM_point 181 = .ok (.iastore, 1) := by decide +kernel
theorem d_PM_point_182 : decode b_PM_point 182 = .ok (.aload_n 0, 1) := by decide +kernel
theorem d_PM_point_183 : decode b_PM_point 183 = .ok (.getfield 32, 3) := by decide +kernel
theorem d_PM_point_186 : decode b_PM_point 186 = .ok (.aload_n 0, 1) := by decide +kernel
theorem d_PM_point_187 : decode b_PM_point 187 = .ok (.getfield 48, 3) := by decide +kernel
theorem d_PM_point_190 : decode b_PM_point 190 = .ok (.aload_n 0, 1) := by decide +kernel
theorem d_PM_point_191 : decode b_PM_point 191 = .ok (.getfield 48, 3) := by decide +kernel
theorem d_PM_point_194 : decode b_PM_point 194 = .ok (.iconst 1, 1) := by decide +kernel
theorem d_PM_point_195 : decode b_PM_point 195 = .ok (.iadd, 1) := by decide +kernel
theorem d_PM_point_196 : decode b_PM_point 196 = .ok (.iastore, 1) := by decide +kernel
theorem d_PM_point_197 : decode b_PM_point 197 = .ok (.aload_n 0, 1) := by decide +kernel
theorem d_PM_point_198 : decode b_PM_point 198 = .ok (.getfield 35, 3) := by decide +kernel
theorem d_PM_point_201 : decode b_PM_point 201 = .ok (.aload_n 0, 1) := by decide +kernel
theorem d_PM_point_202 : decode b_PM_point 202 = .ok (.getfield 48, 3) := by decide +kernel
theorem d_PM_point_205 : decode b_PM_point 205 = .ok (.iconst (-1), 1) := by decide +kernel
theorem d_PM_point_206 : decode b_PM_point 206 = .ok (.iastore, 1) := by decide +kernel
theorem d_PM_point_207 : decode b_PM_point 207 = .ok (.aload_n 0, 1) := by decide +kernel
theorem d_PM_point_208 : decode b_PM_point 208 = .ok (.dup, 1) := by decide +kernel
theorem d_PM_point_209 : decode b_PM_point 209 = .ok (.getfield 48, 3) := by decide +kernel
theorem d_PM_point_212 : decode b_PM_point 212 = .ok (.iconst 1, 1) := by decide +kernel
theorem d_PM_point_213 : decode b_PM_point 213 = .ok (.iadd, 1) := by decide +kernel
theorem d_PM_point_214 : decode b_PM_point 214 = .ok (.putfield 48, 3) := by decide +kernel
theorem d_PM_point_217 : decode b_PM_point 217 = .ok (.aload_n 0, 1) := by decide +kernel
theorem d_PM_point_218 : decode b_PM_point 218 = .ok (.getfield 48, 3) := by decide +kernel
theorem d_PM_point_221 : decode b_PM_point 221 = .ok (.iconst 1, 1) := by decide +kernel
theorem d_PM_point_222 : decode b_PM_point 222 = .ok (.isub, 1) := by decide +kernel
theorem d_PM_point_223 : decode b_PM_point 223 = .ok (.ireturn, 1) := by decide +kernel
theorem d_PM_next_0 : decode b_PM_next 0 = .ok (.aload_n 0, 1) := by decide +kernel
theorem d_PM_next_1 : decode b_PM_next 1 = .ok (.iload_n 1, 1) := by decide +kernel
theorem d_PM_next_2 : decode b_PM_next 2 = .ok (.invokevirtual 55, 3) := by decide +kernel
theorem d_PM_next_5 : decode b_PM_next 5 = .ok (.ifCond .eq 25, 3) := by decide +kernel
theorem d_PM_next_8 : decode b_PM_next 8 = .ok (.iload_n 2, 1) := by decide +kernel
theorem d_PM_next_9 : decode b_PM_next 9 = .ok (.iconst (-1), 1) := by decide +kernel
theorem d_PM_next_10 : decode b_PM_next 10 = .ok (.if_icmp .lt 20, 3) := by decide +kernel
theorem d_PM_next_13 : decode b_PM_next 13 = .ok (.iload_n 2, 1) := by decide +kernel
theorem d_PM_next_14 : decode b_PM_next 14 = .ok (.bipush 120, 2) := by decide +kernel
theorem d_PM_next_16 : decode b_PM_next 16 = .ok (.if_icmp .ge 14, 3) := by decide +kernel
theorem d_PM_next_19 : decode b_PM_next 19 = .ok (.iload_n 3, 1) := by decide +kernel
theorem d_PM_next_20 : decode b_PM_next 20 = .ok (.iconst (-1), 1) := by decide +kernel
theorem d_PM_next_21 : decode b_PM_next 21 = .ok (.if_icmp .lt 9, 3) := by decide +kernel
theorem d_PM_next_24 : decode b_PM_next 24 = .ok (.iload_n 3, 1) := by decide +kernel
theorem d_PM_next_25 : decode b_PM_next 25 = .ok (.bipush 120, 2) := by decide +kernel
theorem d_PM_next_27 : decode b_PM_next 27 = .ok (.if_icmp .lt 5, 3) := by decide +kernel
theorem d_PM_next_30 : decode b_PM_next 30 = .ok (.iconst 0, 1) := by decide +kernel
theorem d_PM_next_31 : decode b_PM_next 31 = .ok (.ireturn, 1) := by decide +kernel
theorem d_PM_next_32 : decode b_PM_next 32 = .ok (.aload_n 0, 1) := by decide +kernel
theorem d_PM_next_33 : decode b_PM_next 33 = .ok (.getfield 32, 3) := by decide +kernel
theorem d_PM_next_36 : decode b_PM_next 36 = .ok (.iload_n 1, 1) := by decide +kernel
theorem d_PM_next_37 : decode b_PM_next 37 = .ok (.iload_n 2, 1) := by decide +kernel
theorem d_PM_next_38 : decode b_PM_next 38 = .ok (.iastore, 1) := by decide +kernel
theorem d_PM_next_39 : decode b_PM_next 39 = .ok (.aload_n 0, 1) := by decide +kernel
theorem d_PM_next_40 : decode b_PM_next 40 = .ok (.getfield 35, 3) := by decide +kernel
theorem d_PM_next_43 : decode b_PM_next 43 = .ok (.iload_n 1, 1) := by decide +kernel
theorem d_PM_next_44 : decode b_PM_next 44 = .ok (.iload_n 3, 1) := by decide +kernel
theorem d_PM_next_45 : decode b_PM_next 45 = .ok (.iastore, 1) := by decide +kernel
theorem d_PM_next_46 : decode b_PM_next 46 = .ok (.iconst 1, 1) := by decide +kernel
theorem d_PM_next_47 : decode b_PM_next 47 = .ok (.ireturn, 1) := by decide +kernel
end
section
theorem d_PM_come_0 : decode b_PM_come 0 = .ok (.aload_n 0, 1) := by decide +kernel
theorem d_PM_come_1 : decode b_PM_come 1 = .ok (.iload_n 1, 1) := by decide +kernel
theorem d_PM_come_2 : decode b_PM_come 2 = .ok (.invokevirtual 55, 3) := by decide +kernel
theorem d_PM_come_5 : decode b_PM_come 5 = .ok (.ifCond .eq 16, 3) := by decide +kernel
theorem d_PM_come_8 : decode b_PM_come 8 = .ok (.aload_n 0, 1) := by decide +kernel
theorem d_PM_come_9 : decode b_PM_come 9 = .ok (.getfield 38, 3) := by decide +kernel
theorem d_PM_come_12 : decode b_PM_come 12 = .ok (.iconst 2, 1) := by decide +kernel
theorem d_PM_come_13 : decode b_PM_come 13 = .ok (.iload_n 1, 1) := by decide +kernel
theorem d_PM_come_14 : decode b_PM_come 14 = .ok (.imul, 1) := by decide +kernel
theorem d_PM_come_15 : decode b_PM_come 15 = .ok (.iload_n 2, 1) := by decide +kernel
theorem d_PM_come_16 : decode b_PM_come 16 = .ok (.iadd, 1) := by decide +kernel
theorem d_PM_come_17 : decode b_PM_come 17 = .ok (.baload, 1) := by decide +kernel
theorem d_PM_come_18 : decode b_PM_come 18 = .ok (.ifCond .eq 4, 3) := by decide +kernel
theorem d_PM_come_21 : decode b_PM_come 21 = .ok (.return_, 1) := by decide +kernel
theorem d_PM_come_22 : decode b_PM_come 22 = .ok (.aload_n 0, 1) := by decide +kernel
theorem d_PM_come_23 : decode b_PM_come 23 = .ok (.getfield 38, 3) := by decide +kernel
theorem d_PM_come_26 : decode b_PM_come 26 = .ok (.iconst 2, 1) := by decide +kernel
theorem d_PM_come_27 : decode b_PM_come 27 = .ok (.iload_n 1, 1) := by decide +kernel
theorem d_PM_come_28 : decode b_PM_come 28 = .ok (.imul, 1) := by decide +kernel
theorem d_PM_come_29 : decode b_PM_come 29 = .ok (.iload_n 2, 1) := by decide +kernel
theorem d_PM_come_30 : decode b_PM_come 30 = .ok (.iadd, 1) := by decide +kernel
theorem d_PM_come_31 : decode b_PM_come 31 = .ok (.iconst 1, 1) := by decide +kernel
theorem d_PM_come_32 : decode b_PM_come 32 = .ok (.bastore, 1) := by decide +kernel
theorem d_PM_come_33 : decode b_PM_come 33 = .ok (.aload_n 0, 1) := by decide +kernel
theorem d_PM_come_34 : decode b_PM_come 34 = .ok (.getfield 41, 3) := by decide +kernel
theorem d_PM_come_37 : decode b_PM_come 37 = .ok (.aload_n 0, 1) := by decide +kernel
theorem d_PM_come_38 : decode b_PM_come 38 = .ok (.getfield 58, 3) := by decide +kernel
theorem d_PM_come_41 : decode b_PM_come 41 = .ok (.iconst 2, 1) := by decide +kernel
theorem d_PM_come_42 : decode b_PM_come 42 = .ok (.iload_n 1, 1) := by decide +kernel
theorem d_PM_come_43 : decode b_PM_come 43 = .ok (.imul, 1) := by decide +kernel
theorem d_PM_come_44 : decode b_PM_come 44 = .ok (.iload_n 2, 1) := by decide +kernel
theorem d_PM_come_45 : decode b_PM_come 45 = .ok (.iadd, 1) := by decide +kernel
theorem d_PM_come_46 : decode b_PM_come 46 = .ok (.iastore, 1) := by decide +kernel
theorem d_PM_come_47 : decode b_PM_come 47 = .ok (.aload_n 0, 1) := by decide +kernel
theorem d_PM_come_48 : decode b_PM_come 48 = .ok (.dup, 1) := by decide +kernel
theorem d_PM_come_49 : decode b_PM_come 49 = .ok (.getfield 58, 3) := by decide +kernel
theorem d_PM_come_52 : decode b_PM_come 52 = .ok (.iconst 1, 1) := by decide +kernel
theorem d_PM_come_53 : decode b_PM_come 53 = .ok (.iadd, 1) := by decide +kernel
theorem d_PM_come_54 : decode b_PM_come 54 = .ok (.putfield 58, 3) := by decide +kernel
theorem d_PM_come_57 : decode b_PM_come 57 = .ok (.return_, 1) := by decide +kernel
theorem d_PM_go_0 : decode b_PM_go 0 = .ok (.iconst 0, 1) := by decide +kernel
theorem d_PM_go_1 : decode b_PM_go 1 = .ok (.istore_n 3, 1) := by decide +kernel
theorem d_PM_go_2 : decode b_PM_go 2 = .ok (.iload_n 3, 1) := by decide +kernel
theorem d_PM_go_3 : decode b_PM_go 3 = .ok (.sipush 240, 3) := by decide +kernel
theorem d_PM_go_6 : decode b_PM_go 6 = .ok (.if_icmp .ge 16, 3) := by decide +kernel
theorem d_PM_go_9 : decode b_PM_go 9 = .ok (.aload_n 0, 1) := by decide +kernel
theorem d_PM_go_10 : decode b_PM_go 10 = .ok (.getfield 38, 3) := by decide +kernel
theorem d_PM_go_13 : decode b_PM_go 13 = .ok (.iload_n 3, 1) := by decide +kernel
theorem d_PM_go_14 : decode b_PM_go 14 = .ok (.iconst 0, 1) := by decide +kernel
theorem d_PM_go_15 : decode b_PM_go 15 = .ok (.bastore, 1) := by decide +kernel
theorem d_PM_go_16 : decode b_PM_go 16 = .ok (.iinc 3 1, 3) := by decide +kernel
theorem d_PM_go_19 : decode b_PM_go 19 = .ok (.goto (-17), 3) := by decide +kernel
theorem d_PM_go_22 : decode b_PM_go 22 = .ok (.aload_n 0, 1) := by decide +kernel
theorem d_PM_go_23 : decode b_PM_go 23 = .ok (.iconst 0, 1) := by decide +kernel
theorem d_PM_go_24 : decode b_PM_go 24 = .ok (.putfield 58, 3) := by decide +kernel
theorem d_PM_go_27 : decode b_PM_go 27 = .ok (.aload_n 0, 1) := by decide +kernel
theorem d_PM_go_28 : decode b_PM_go 28 = .ok (.iconst 0, 1) := by decide +kernel
theorem d_PM_go_29 : decode b_PM_go 29 = .ok (.aload_n 0, 1) := by decide +kernel
theorem d_PM_go_30 : decode b_PM_go 30 = .ok (.iload_n 1, 1) := by decide +kernel
theorem d_PM_go_31 : decode b_PM_go 31 = .ok (.invokevirtual 51, 3) := by decide +kernel
theorem d_PM_go_34 : decode b_PM_go 34 = .ok (.ifCond .eq 16, 3) := by decide +kernel
theorem d_PM_go_37 : decode b_PM_go 37 = .ok (.aload_n 0, 1) := by decide +kernel
theorem d_PM_go_38 : decode b_PM_go 38 = .ok (.getfield 17, 3) := by decide +kernel
theorem d_PM_go_41 : decode b_PM_go 41 = .ok (.iload_n 1, 1) := by decide +kernel
theorem d_PM_go_42 : decode b_PM_go 42 = .ok (.baload, 1) := by decide +kernel
theorem d_PM_go_43 : decode b_PM_go 43 = .ok (.ifCond .eq 7, 3) := by decide +kernel
theorem d_PM_go_46 : decode b_PM_go 46 = .ok (.iconst 1, 1) := by decide +kernel
theorem d_PM_go_47 : decode b_PM_go 47 = .ok (.goto 4, 3) := by decide +kernel
theorem d_PM_go_50 : decode b_PM_go 50 = .ok (.iconst 0, 1) := by decide +kernel
theorem d_PM_go_51 : decode b_PM_go 51 = .ok (.invokevirtual 61, 3) := by decide +kernel
theorem d_PM_go_54 : decode b_PM_go 54 = .ok (.aload_n 0, 1) := by decide +kernel
theorem d_PM_go_55 : decode b_PM_go 55 = .ok (.getfield 58, 3) := by decide +kernel
theorem d_PM_go_58 : decode b_PM_go 58 = .ok (.ifCond .le 146, 3) := by decide +kernel
theorem d_PM_go_61 : decode b_PM_go 61 = .ok (.aload_n 0, 1) := by decide +kernel
theorem d_PM_go_62 : decode b_PM_go 62 = .ok (.dup, 1) := by decide +kernel
theorem d_PM_go_63 : decode b_PM_go 63 = .ok (.getfield 58, 3) := by decide +kernel
theorem d_PM_go_66 : decode b_PM_go 66 = .ok (.iconst 1, 1) := by decide +kernel
theorem d_PM_go_67 : decode b_PM_go 67 = .ok (.isub, 1) := by decide +kernel
theorem d_PM_go_68 : decode b_PM_go 68 = .ok (.putfield 58, 3) := by decide +kernel
theorem d_PM_go_71 : decode b_PM_go 71 = .ok (.aload_n 0, 1) := by decide +kernel
theorem d_PM_go_72 : decode b_PM_go 72 = .ok (.getfield 41, 3) := by decide +kernel
theorem d_PM_go_75 : decode b_PM_go 75 = .ok (.aload_n 0, 1) := by decide +kernel
theorem d_PM_go_76 : decode b_PM_go 76 = .ok (.getfield 58, 3) := by decide +kernel
theorem d_PM_go_79 : decode b_PM_go 79 = .ok (.iaload, 1) := by decide +kernel
theorem d_PM_go_80 : decode b_PM_go 80 = .ok (.iconst 2, 1) := by decide +kernel
theorem d_PM_go_81 : decode b_PM_go 81 = .ok (.idiv, 1) := by decide +kernel
theorem d_PM_go_82 : decode b_PM_go 82 = .ok (.istore_n 3, 1) := by decide +kernel
theorem d_PM_go_83 : decode b_PM_go 83 = .ok (.aload_n 0, 1) := by decide +kernel
theorem d_PM_go_84 : decode b_PM_go 84 = .ok (.getfield 41, 3) := by decide +kernel
theorem d_PM_go_87 : decode b_PM_go 87 = .ok (.aload_n 0, 1) := by decide +kernel
theorem d_PM_go_88 : decode b_PM_go 88 = .ok (.getfield 58, 3) := by decide +kernel
theorem d_PM_go_91 : decode b_PM_go 91 = .ok (.iaload, 1) := by decide +kernel
theorem d_PM_go_92 : decode b_PM_go 92 = .ok (.iconst 2, 1) := by decide +kernel
theorem d_PM_go_93 : decode b_PM_go 93 = .ok (.irem, 1) := by decide +kernel
theorem d_PM_go_94 : decode b_PM_go 94 = .ok (.istore 4, 2) := by decide +kernel
theorem d_PM_go_96 : decode b_PM_go 96 = .ok (.aload_n 0, 1) := by decide +kernel
theorem d_PM_go_97 : decode b_PM_go 97 = .ok (.getfield 23, 3) := by decide +kernel
theorem d_PM_go_100 : decode b_PM_go 100 = .ok (.iload_n 3, 1) := by decide +kernel
theorem d_PM_go_101 : decode b_PM_go 101 = .ok (.iaload, 1) := by decide +kernel
theorem d_PM_go_102 : decode b_PM_go 102 = .ok (.iload_n 1, 1) := by decide +kernel
theorem d_PM_go_103 : decode b_PM_go 103 = .ok (.if_icmp .ne 44, 3) := by decide +kernel
theorem d_PM_go_106 : decode b_PM_go 106 = .ok (.iload_n 2, 1) := by decide +kernel
theorem d_PM_go_107 : decode b_PM_go 107 = .ok (.aload_n 0, 1) := by decide +kernel
theorem d_PM_go_108 : decode b_PM_go 108 = .ok (.getfield 26, 3) := by decide +kernel
theorem d_PM_go_111 : decode b_PM_go 111 = .ok (.iload_n 3, 1) := by decide +kernel
theorem d_PM_go_112 : decode b_PM_go 112 = .ok (.iaload, 1) := by decide +kernel
theorem d_PM_go_113 : decode b_PM_go 113 = .ok (.if_icmp .lt 34, 3) := by decide +kernel
theorem d_PM_go_116 : decode b_PM_go 116 = .ok (.iload_n 2, 1) := by decide +kernel
theorem d_PM_go_117 : decode b_PM_go 117 = .ok (.aload_n 0, 1) := by decide +kernel
theorem d_PM_go_118 : decode b_PM_go 118 = .ok (.getfield 26, 3) := by decide +kernel
theorem d_PM_go_121 : decode b_PM_go 121 = .ok (.iload_n 3, 1) := by decide +kernel
theorem d_PM_go_122 : decode b_PM_go 122 = .ok (.iaload, 1) := by decide +kernel
theorem d_PM_go_123 : decode b_PM_go 123 = .ok (.aload_n 0, 1) := by decide +kernel
theorem d_PM_go_124 : decode b_PM_go 124 = .ok (.getfield 29, 3) := by decide +kernel
theorem d_PM_go_127 : decode b_PM_go 127 = .ok (.iload_n 3, 1) := by decide +kernel
theorem d_PM_go_128 : decode b_PM_go 128 = .ok (.iaload, 1) := by decide +kernel
theorem d_PM_go_129 : decode b_PM_go 129 = .ok (.iadd, 1) := by decide +kernel
theorem d_PM_go_130 : decode b_PM_go 130 = .ok (.if_icmp .ge 17, 3) := by decide +kernel
theorem d_PM_go_133 : decode b_PM_go 133 = .ok (.aload_n 0, 1) := by decide +kernel
theorem d_PM_go_134 : decode b_PM_go 134 = .ok (.getfield 20, 3) := by decide +kernel
theorem d_PM_go_137 : decode b_PM_go 137 = .ok (.iload_n 3, 1) := by decide +kernel
theorem d_PM_go_138 : decode b_PM_go 138 = .ok (.iaload, 1) := by decide +kernel
theorem d_PM_go_139 : decode b_PM_go 139 = .ok (.iconst 3, 1) := by decide +kernel
theorem d_PM_go_140 : decode b_PM_go 140 = .ok (.if_icmp .eq 7, 3) := by decide +kernel
theorem d_PM_go_143 : decode b_PM_go 143 = .ok (.iconst 1, 1) := by decide +kernel
theorem d_PM_go_144 : decode b_PM_go 144 = .ok (.goto 4, 3) := by decide +kernel
theorem d_PM_go_147 : decode b_PM_go 147 = .ok (.iconst 0, 1) := by decide +kernel
theorem d_PM_go_148 : decode b_PM_go 148 = .ok (.istore 5, 2) := by decide +kernel
theorem d_PM_go_150 : decode b_PM_go 150 = .ok (.iload 5, 2) := by decide +kernel
theorem d_PM_go_152 : decode b_PM_go 152 = .ok (.ifCond .ne 8, 3) := by decide +kernel
theorem d_PM_go_155 : decode b_PM_go 155 = .ok (.iload 4, 2) := by decide +kernel
theorem d_PM_go_157 : decode b_PM_go 157 = .ok (.goto 18, 3) := by decide +kernel
theorem d_PM_go_160 : decode b_PM_go 160 = .ok (.aload_n 0, 1) := by decide +kernel
theorem d_PM_go_161 : decode b_PM_go 161 = .ok (.getfield 20, 3) := by decide +kernel
theorem d_PM_go_164 : decode b_PM_go 164 = .ok (.iload_n 3, 1) := by decide +kernel
theorem d_PM_go_165 : decode b_PM_go 165 = .ok (.iaload, 1) := by decide +kernel
theorem d_PM_go_166 : decode b_PM_go 166 = .ok (.iconst 1, 1) := by decide +kernel
theorem d_PM_go_167 : decode b_PM_go 167 = .ok (.if_icmp .ne 7, 3) := by decide +kernel
theorem d_PM_go_170 : decode b_PM_go 170 = .ok (.iconst 1, 1) := by decide +kernel
theorem d_PM_go_171 : decode b_PM_go 171 = .ok (.goto 4, 3) := by decide +kernel
theorem d_PM_go_174 : decode b_PM_go 174 = .ok (.iconst 0, 1) := by decide +kernel
theorem d_PM_go_175 : decode b_PM_go 175 = .ok (.istore 6, 2) := by decide +kernel
theorem d_PM_go_177 : decode b_PM_go 177 = .ok (.aload_n 0, 1) := by decide +kernel
theorem d_PM_go_178 : decode b_PM_go 178 = .ok (.aload_n 0, 1) := by decide +kernel
theorem d_PM_go_179 : decode b_PM_go 179 = .ok (.getfield 32, 3) := by decide +kernel
theorem d_PM_go_182 : decode b_PM_go 182 = .ok (.iload_n 3, 1) := by decide +kernel
theorem d_PM_go_183 : decode b_PM_go 183 = .ok (.iaload, 1) := by decide +kernel
theorem d_PM_go_184 : decode b_PM_go 184 = .ok (.iload 6, 2) := by decide +kernel
theorem d_PM_go_186 : decode b_PM_go 186 = .ok (.invokevirtual 61, 3) := by decide +kernel
theorem d_PM_go_189 : decode b_PM_go 189 = .ok (.aload_n 0, 1) := by decide +kernel
theorem d_PM_go_190 : decode b_PM_go 190 = .ok (.aload_n 0, 1) := by decide +kernel
theorem d_PM_go_191 : decode b_PM_go 191 = .ok (.getfield 35, 3) := by decide +kernel
theorem d_PM_go_194 : decode b_PM_go 194 = .ok (.iload_n 3, 1) := by decide +kernel
theorem d_PM_go_195 : decode b_PM_go 195 = .ok (.iaload, 1) := by decide +kernel
theorem d_PM_go_196 : decode b_PM_go 196 = .ok (.iload 6, 2) := by decide +kernel
theorem d_PM_go_198 : decode b_PM_go 198 = .ok (.invokevirtual 61, 3) := by decide +kernel
theorem d_PM_go_201 : decode b_PM_go 201 = .ok (.goto (-147), 3) := by decide +kernel
theorem d_PM_go_204 : decode b_PM_go 204 = .ok (.return_, 1) := by decide +kernel
theorem d_PM_isReached_0 : decode b_PM_isReached 0 = .ok (.aload_n 0, 1) := by decide +kernel
theorem d_PM_isReached_1 : decode b_PM_isReached 1 = .ok (.bipush (-2), 2) := by decide +kernel
theorem d_PM_isReached_3 : decode b_PM_isReached 3 = .ok (.iconst 0, 1) := by decide +kernel
theorem d_PM_isReached_4 : decode b_PM_isReached 4 = .ok (.invokevirtual 65, 3) := by decide +kernel
theorem d_PM_isReached_7 : decode b_PM_isReached 7 = .ok (.aload_n 0, 1) := by decide +kernel
theorem d_PM_isReached_8 : decode b_PM_isReached 8 = .ok (.iload_n 1, 1) := by decide +kernel
theorem d_PM_isReached_9 : decode b_PM_isReached 9 = .ok (.invokevirtual 55, 3) := by decide +kernel
theorem d_PM_isReached_12 : decode b_PM_isReached 12 = .ok (.ifCond .eq 31, 3) := by decide +kernel
theorem d_PM_isReached_15 : decode b_PM_isReached 15 = .ok (.aload_n 0, 1) := by decide +kernel
theorem d_PM_isReached_16 : decode b_PM_isReached 16 = .ok (.getfield 38, 3) := by decide +kernel
theorem d_PM_isReached_19 : decode b_PM_isReached 19 = .ok (.iconst 2, 1) := by decide +kernel
theorem d_PM_isReached_20 : decode b_PM_isReached 20 = .ok (.iload_n 1, 1) := by decide +kernel
theorem d_PM_isReached_21 : decode b_PM_isReached 21 = .ok (.imul, 1) := by decide +kernel
theorem d_PM_isReached_22 : decode b_PM_isReached 22 = .ok (.baload, 1) := by decide +kernel
theorem d_PM_isReached_23 : decode b_PM_isReached 23 = .ok (.ifCond .ne 16, 3) := by decide +kernel
theorem d_PM_isReached_26 : decode b_PM_isReached 26 = .ok (.aload_n 0, 1) := by decide +kernel
theorem d_PM_isReached_27 : decode b_PM_isReached 27 = .ok (.getfield 38, 3) := by decide +kernel
theorem d_PM_isReached_30 : decode b_PM_isReached 30 = .ok (.iconst 2, 1) := by decide +kernel
theorem d_PM_isReached_31 : decode b_PM_isReached 31 = .ok (.iload_n 1, 1) := by decide +kernel
theorem d_PM_isReached_32 : decode b_PM_isReached 32 = .ok (.imul, 1) := by decide +kernel
theorem d_PM_isReached_33 : decode b_PM_isReached 33 = .ok (.iconst 1, 1) := by decide +kernel
theorem d_PM_isReached_34 : decode b_PM_isReached 34 = .ok (.iadd, 1) := by decide +kernel
theorem d_PM_isReached_35 : decode b_PM_isReached 35 = .ok (.baload, 1) := by decide +kernel
theorem d_PM_isReached_36 : decode b_PM_isReached 36 = .ok (.ifCond .eq 7, 3) := by decide +kernel
theorem d_PM_isReached_39 : decode b_PM_isReached 39 = .ok (.iconst 1, 1) := by decide +kernel
theorem d_PM_isReached_40 : decode b_PM_isReached 40 = .ok (.goto 4, 3) := by decide +kernel
theorem d_PM_isReached_43 : decode b_PM_isReached 43 = .ok (.iconst 0, 1) := by decide +kernel
theorem d_PM_isReached_44 : decode b_PM_isReached 44 = .ok (.ireturn, 1) := by decide +kernel
theorem d_PM_bits_0 : decode b_PM_bits 0 = .ok (.iconst 0, 1) := by decide +kernel
theorem d_PM_bits_1 : decode b_PM_bits 1 = .ok (.istore 4, 2) := by decide +kernel
theorem d_PM_bits_3 : decode b_PM_bits 3 = .ok (.iconst 0, 1) := by decide +kernel
theorem d_PM_bits_4 : decode b_PM_bits 4 = .ok (.istore 5, 2) := by decide +kernel
theorem d_PM_bits_6 : decode b_PM_bits 6 = .ok (.aload_n 0, 1) := by decide +kernel
theorem d_PM_bits_7 : decode b_PM_bits 7 = .ok (.iload_n 1, 1) := by decide +kernel
theorem d_PM_bits_8 : decode b_PM_bits 8 = .ok (.invokevirtual 55, 3) := by decide +kernel
theorem d_PM_bits_11 : decode b_PM_bits 11 = .ok (.ifCond .eq 62, 3) := by decide +kernel
theorem d_PM_bits_14 : decode b_PM_bits 14 = .ok (.aload_n 0, 1) := by decide +kernel
theorem d_PM_bits_15 : decode b_PM_bits 15 = .ok (.iload_n 2, 1) := by decide +kernel
theorem d_PM_bits_16 : decode b_PM_bits 16 = .ok (.invokevirtual 51, 3) := by decide +kernel
theorem d_PM_bits_19 : decode b_PM_bits 19 = .ok (.ifCond .eq 54, 3) := by decide +kernel
theorem d_PM_bits_22 : decode b_PM_bits 22 = .ok (.iload 5, 2) := by decide +kernel
theorem d_PM_bits_24 : decode b_PM_bits 24 = .ok (.aload_n 0, 1) := by decide +kernel
theorem d_PM_bits_25 : decode b_PM_bits 25 = .ok (.getfield 7, 3) := by decide +kernel
theorem d_PM_bits_28 : decode b_PM_bits 28 = .ok (.iload_n 2, 1) := by decide +kernel
theorem d_PM_bits_29 : decode b_PM_bits 29 = .ok (.iaload, 1) := by decide +kernel
theorem d_PM_bits_30 : decode b_PM_bits 30 = .ok (.if_icmp .ge 43, 3) := by decide +kernel
theorem d_PM_bits_33 : decode b_PM_bits 33 = .ok (.aload_n 0, 1) := by decide +kernel
theorem d_PM_bits_34 : decode b_PM_bits 34 = .ok (.iload_n 2, 1) := by decide +kernel
theorem d_PM_bits_35 : decode b_PM_bits 35 = .ok (.iload 5, 2) := by decide +kernel
theorem d_PM_bits_37 : decode b_PM_bits 37 = .ok (.invokevirtual 65, 3) := by decide +kernel
theorem d_PM_bits_40 : decode b_PM_bits 40 = .ok (.aload_n 0, 1) := by decide +kernel
theorem d_PM_bits_41 : decode b_PM_bits 41 = .ok (.getfield 38, 3) := by decide +kernel
theorem d_PM_bits_44 : decode b_PM_bits 44 = .ok (.iconst 2, 1) := by decide +kernel
theorem d_PM_bits_45 : decode b_PM_bits 45 = .ok (.iload_n 1, 1) := by decide +kernel
theorem d_PM_bits_46 : decode b_PM_bits 46 = .ok (.imul, 1) := by decide +kernel
theorem d_PM_bits_47 : decode b_PM_bits 47 = .ok (.iload_n 3, 1) := by decide +kernel
theorem d_PM_bits_48 : decode b_PM_bits 48 = .ok (.iadd, 1) := by decide +kernel
theorem d_PM_bits_49 : decode b_PM_bits 49 = .ok (.baload, 1) := by decide +kernel
theorem d_PM_bits_50 : decode b_PM_bits 50 = .ok (.ifCond .eq 13, 3) := by decide +kernel
theorem d_PM_bits_53 : decode b_PM_bits 53 = .ok (.iload 4, 2) := by decide +kernel
theorem d_PM_bits_55 : decode b_PM_bits 55 = .ok (.iconst 1, 1) := by decide +kernel
theorem d_PM_bits_56 : decode b_PM_bits 56 = .ok (.iload 5, 2) := by decide +kernel
theorem d_PM_bits_58 : decode b_PM_bits 58 = .ok (.ishl, 1) := by decide +kernel
theorem d_PM_bits_59 : decode b_PM_bits 59 = .ok (.ior, 1) := by decide +kernel
theorem d_PM_bits_60 : decode b_PM_bits 60 = .ok (.goto 5, 3) := by decide +kernel
theorem d_PM_bits_63 : decode b_PM_bits 63 = .ok (.iload 4, 2) := by decide +kernel
theorem d_PM_bits_65 : decode b_PM_bits 65 = .ok (.istore 4, 2) := by decide +kernel
theorem d_PM_bits_67 : decode b_PM_bits 67 = .ok (.iinc 5 1, 3) := by decide +kernel
theorem d_PM_bits_70 : decode b_PM_bits 70 = .ok (.goto (-64), 3) := by decide +kernel
theorem d_PM_bits_73 : decode b_PM_bits 73 = .ok (.iload 4, 2) := by decide +kernel
theorem d_PM_bits_75 : decode b_PM_bits 75 = .ok (.ireturn, 1) := by decide +kernel
theorem d_PM_without_0 : decode b_PM_without 0 = .ok (.aload_n 0, 1) := by decide +kernel
theorem d_PM_without_1 : decode b_PM_without 1 = .ok (.iload_n 1, 1) := by decide +kernel
theorem d_PM_without_2 : decode b_PM_without 2 = .ok (.iload_n 2, 1) := by decide +kernel
theorem d_PM_without_3 : decode b_PM_without 3 = .ok (.iconst 0, 1) := by decide +kernel
theorem d_PM_without_4 : decode b_PM_without 4 = .ok (.invokevirtual 68, 3) := by decide +kernel
theorem d_PM_without_7 : decode b_PM_without 7 = .ok (.ireturn, 1) := by decide +kernel
theorem d_PM_having_0 : decode b_PM_having 0 = .ok (.aload_n 0, 1) := by decide +kernel
theorem d_PM_having_1 : decode b_PM_having 1 = .ok (.iload_n 1, 1) := by decide +kernel
theorem d_PM_having_2 : decode b_PM_having 2 = .ok (.iload_n 2, 1) := by decide +kernel
theorem d_PM_having_3 : decode b_PM_having 3 = .ok (.iconst 1, 1) := by decide +kernel
theorem d_PM_having_4 : decode b_PM_having 4 = .ok (.invokevirtual 68, 3) := by decide +kernel
theorem d_PM_having_7 : decode b_PM_having 7 = .ok (.ireturn, 1) := by decide +kernel
theorem d_PM_fault_0 : decode b_PM_fault 0 = .ok (.aload_n 0, 1) := by decide +kernel
theorem d_PM_fault_1 : decode b_PM_fault 1 = .ok (.iload_n 1, 1) := by decide +kernel
theorem d_PM_fault_2 : decode b_PM_fault 2 = .ok (.invokevirtual 55, 3) := by decide +kernel
theorem d_PM_fault_5 : decode b_PM_fault 5 = .ok (.ifCond .ne 5, 3) := by decide +kernel
theorem d_PM_fault_8 : decode b_PM_fault 8 = .ok (.iconst (-1), 1) := by decide +kernel
theorem d_PM_fault_9 : decode b_PM_fault 9 = .ok (.ireturn, 1) := by decide +kernel
theorem d_PM_fault_10 : decode b_PM_fault 10 = .ok (.aload_n 0, 1) := by decide +kernel
theorem d_PM_fault_11 : decode b_PM_fault 11 = .ok (.getfield 20, 3) := by decide +kernel
theorem d_PM_fault_14 : decode b_PM_fault 14 = .ok (.iload_n 1, 1) := by decide +kernel
theorem d_PM_fault_15 : decode b_PM_fault 15 = .ok (.iaload, 1) := by decide +kernel
theorem d_PM_fault_16 : decode b_PM_fault 16 = .ok (.istore_n 2, 1) := by decide +kernel
theorem d_PM_fault_17 : decode b_PM_fault 17 = .ok (.iload_n 2, 1) := by decide +kernel
theorem d_PM_fault_18 : decode b_PM_fault 18 = .ok (.iconst 1, 1) := by decide +kernel
theorem d_PM_fault_19 : decode b_PM_fault 19 = .ok (.if_icmp .lt 16, 3) := by decide +kernel
theorem d_PM_fault_22 : decode b_PM_fault 22 = .ok (.iload_n 2, 1) := by decide +kernel
theorem d_PM_fault_23 : decode b_PM_fault 23 = .ok (.iconst 3, 1) := by decide +kernel
theorem d_PM_fault_24 : decode b_PM_fault 24 = .ok (.if_icmp .gt 11, 3) := by decide +kernel
theorem d_PM_fault_27 : decode b_PM_fault 27 = .ok (.aload_n 0, 1) := by decide +kernel
theorem d_PM_fault_28 : decode b_PM_fault 28 = .ok (.iload_n 1, 1) := by decide +kernel
theorem d_PM_fault_29 : decode b_PM_fault 29 = .ok (.invokevirtual 72, 3) := by decide +kernel
theorem d_PM_fault_32 : decode b_PM_fault 32 = .ok (.ifCond .ne 5, 3) := by decide +kernel
theorem d_PM_fault_35 : decode b_PM_fault 35 = .ok (.iconst 0, 1) := by decide +kernel
theorem d_PM_fault_36 : decode b_PM_fault 36 = .ok (.ireturn, 1) := by decide +kernel
theorem d_PM_fault_37 : decode b_PM_fault 37 = .ok (.aload_n 0, 1) := by decide +kernel
theorem d_PM_fault_38 : decode b_PM_fault 38 = .ok (.getfield 23, 3) := by decide +kernel
theorem d_PM_fault_41 : decode b_PM_fault 41 = .ok (.iload_n 1, 1) := by decide +kernel
theorem d_PM_fault_42 : decode b_PM_fault 42 = .ok (.iaload, 1) := by decide +kernel
theorem d_PM_fault_43 : decode b_PM_fault 43 = .ok (.istore_n 3, 1) := by decide +kernel
theorem d_PM_fault_44 : decode b_PM_fault 44 = .ok (.iload_n 2, 1) := by decide +kernel
theorem d_PM_fault_45 : decode b_PM_fault 45 = .ok (.iconst 1, 1) := by decide +kernel
theorem d_PM_fault_46 : decode b_PM_fault 46 = .ok (.if_icmp .eq 40, 3) := by decide +kernel
theorem d_PM_fault_49 : decode b_PM_fault 49 = .ok (.iconst 1, 1) := by decide +kernel
theorem d_PM_fault_50 : decode b_PM_fault 50 = .ok (.aload_n 0, 1) := by decide +kernel
theorem d_PM_fault_51 : decode b_PM_fault 51 = .ok (.getfield 29, 3) := by decide +kernel
theorem d_PM_fault_54 : decode b_PM_fault 54 = .ok (.iload_n 1, 1) := by decide +kernel
theorem d_PM_fault_55 : decode b_PM_fault 55 = .ok (.iaload, 1) := by decide +kernel
theorem d_PM_fault_56 : decode b_PM_fault 56 = .ok (.ishl, 1) := by decide +kernel
theorem d_PM_fault_57 : decode b_PM_fault 57 = .ok (.iconst 1, 1) := by decide +kernel
theorem d_PM_fault_58 : decode b_PM_fault 58 = .ok (.isub, 1) := by decide +kernel
theorem d_PM_fault_59 : decode b_PM_fault 59 = .ok (.aload_n 0, 1) := by decide +kernel
theorem d_PM_fault_60 : decode b_PM_fault 60 = .ok (.getfield 26, 3) := by decide +kernel
theorem d_PM_fault_63 : decode b_PM_fault 63 = .ok (.iload_n 1, 1) := by decide +kernel
theorem d_PM_fault_64 : decode b_PM_fault 64 = .ok (.iaload, 1) := by decide +kernel
theorem d_PM_fault_65 : decode b_PM_fault 65 = .ok (.ishl, 1) := by decide +kernel
theorem d_PM_fault_66 : decode b_PM_fault 66 = .ok (.istore 4, 2) := by decide +kernel
theorem d_PM_fault_68 : decode b_PM_fault 68 = .ok (.aload_n 0, 1) := by decide +kernel
theorem d_PM_fault_69 : decode b_PM_fault 69 = .ok (.iload_n 1, 1) := by decide +kernel
theorem d_PM_fault_70 : decode b_PM_fault 70 = .ok (.iload_n 3, 1) := by decide +kernel
theorem d_PM_fault_71 : decode b_PM_fault 71 = .ok (.invokevirtual 75, 3) := by decide +kernel
theorem d_PM_fault_74 : decode b_PM_fault 74 = .ok (.iload 4, 2) := by decide +kernel
theorem d_PM_fault_76 : decode b_PM_fault 76 = .ok (.iand, 1) := by decide +kernel
theorem d_PM_fault_77 : decode b_PM_fault 77 = .ok (.ifCond .eq 7, 3) := by decide +kernel
theorem d_PM_fault_80 : decode b_PM_fault 80 = .ok (.iconst 1, 1) := by decide +kernel
theorem d_PM_fault_81 : decode b_PM_fault 81 = .ok (.goto 4, 3) := by decide +kernel
theorem d_PM_fault_84 : decode b_PM_fault 84 = .ok (.iconst 0, 1) := by decide +kernel
theorem d_PM_fault_85 : decode b_PM_fault 85 = .ok (.ireturn, 1) := by decide +kernel
theorem d_PM_fault_86 : decode b_PM_fault 86 = .ok (.aload_n 0, 1) := by decide +kernel
theorem d_PM_fault_87 : decode b_PM_fault 87 = .ok (.getfield 13, 3) := by decide +kernel
theorem d_PM_fault_90 : decode b_PM_fault 90 = .ok (.iload_n 3, 1) := by decide +kernel
theorem d_PM_fault_91 : decode b_PM_fault 91 = .ok (.baload, 1) := by decide +kernel
theorem d_PM_fault_92 : decode b_PM_fault 92 = .ok (.ifCond .ne 5, 3) := by decide +kernel
theorem d_PM_fault_95 : decode b_PM_fault 95 = .ok (.iconst 0, 1) := by decide +kernel
theorem d_PM_fault_96 : decode b_PM_fault 96 = .ok (.ireturn, 1) := by decide +kernel
theorem d_PM_fault_97 : decode b_PM_fault 97 = .ok (.aload_n 0, 1) := by decide +kernel
theorem d_PM_fault_98 : decode b_PM_fault 98 = .ok (.getfield 29, 3) := by decide +kernel
theorem d_PM_fault_101 : decode b_PM_fault 101 = .ok (.iload_n 1, 1) := by decide +kernel
theorem d_PM_fault_102 : decode b_PM_fault 102 = .ok (.iaload, 1) := by decide +kernel
theorem d_PM_fault_103 : decode b_PM_fault 103 = .ok (.aload_n 0, 1) := by decide +kernel
theorem d_PM_fault_104 : decode b_PM_fault 104 = .ok (.getfield 7, 3) := by decide +kernel
theorem d_PM_fault_107 : decode b_PM_fault 107 = .ok (.iload_n 3, 1) := by decide +kernel
theorem d_PM_fault_108 : decode b_PM_fault 108 = .ok (.iaload, 1) := by decide +kernel
theorem d_PM_fault_109 : decode b_PM_fault 109 = .ok (.if_icmp .ge 7, 3) := by decide +kernel
theorem d_PM_fault_112 : decode b_PM_fault 112 = .ok (.iconst 3, 1) := by decide +kernel
theorem d_PM_fault_113 : decode b_PM_fault 113 = .ok (.goto 17, 3) := by decide +kernel
theorem d_PM_fault_116 : decode b_PM_fault 116 = .ok (.aload_n 0, 1) := by decide +kernel
theorem d_PM_fault_117 : decode b_PM_fault 117 = .ok (.iload_n 1, 1) := by decide +kernel
theorem d_PM_fault_118 : decode b_PM_fault 118 = .ok (.iload_n 3, 1) := by decide +kernel
theorem d_PM_fault_119 : decode b_PM_fault 119 = .ok (.invokevirtual 79, 3) := by decide +kernel
theorem d_PM_fault_122 : decode b_PM_fault 122 = .ok (.ifCond .eq 7, 3) := by decide +kernel
theorem d_PM_fault_125 : decode b_PM_fault 125 = .ok (.iconst 2, 1) := by decide +kernel
theorem d_PM_fault_126 : decode b_PM_fault 126 = .ok (.goto 4, 3) := by decide +kernel
theorem d_PM_fault_129 : decode b_PM_fault 129 = .ok (.iconst 0, 1) := by decide +kernel
theorem d_PM_fault_130 : decode b_PM_fault 130 = .ok (.ireturn, 1) := by decide +kernel
theorem d_PM_count_0 : decode b_PM_count 0 = .ok (.iconst 0, 1) := by decide +kernel
theorem d_PM_count_1 : decode b_PM_count 1 = .ok (.istore_n 2, 1) := by decide +kernel
theorem d_PM_count_2 : decode b_PM_count 2 = .ok (.iconst 0, 1) := by decide +kernel
theorem d_PM_count_3 : decode b_PM_count 3 = .ok (.istore_n 3, 1) := by decide +kernel
theorem d_PM_count_4 : decode b_PM_count 4 = .ok (.iconst (-1), 1) := by decide +kernel
theorem d_PM_count_5 : decode b_PM_count 5 = .ok (.istore 4, 2) := by decide +kernel
theorem d_PM_count_7 : decode b_PM_count 7 = .ok (.iconst 0, 1) := by decide +kernel
theorem d_PM_count_8 : decode b_PM_count 8 = .ok (.istore 5, 2) := by decide +kernel
theorem d_PM_count_10 : decode b_PM_count 10 = .ok (.aload_n 0, 1) := by decide +kernel
theorem d_PM_count_11 : decode b_PM_count 11 = .ok (.getfield 48, 3) := by decide +kernel
theorem d_PM_count_14 : decode b_PM_count 14 = .ok (.iconst 1, 1) := by decide +kernel
theorem d_PM_count_15 : decode b_PM_count 15 = .ok (.isub, 1) := by decide +kernel
theorem d_PM_count_16 : decode b_PM_count 16 = .ok (.istore 6, 2) := by decide +kernel
theorem d_PM_count_18 : decode b_PM_count 18 = .ok (.iload 6, 2) := by decide +kernel
theorem d_PM_count_20 : decode b_PM_count 20 = .ok (.ifCond .lt 83, 3) := by decide +kernel
theorem d_PM_count_23 : decode b_PM_count 23 = .ok (.iload_n 1, 1) := by decide +kernel
theorem d_PM_count_24 : decode b_PM_count 24 = .ok (.ifCond .le 79, 3) := by decide +kernel
theorem d_PM_count_27 : decode b_PM_count 27 = .ok (.iload_n 1, 1) := by decide +kernel
theorem d_PM_count_28 : decode b_PM_count 28 = .ok (.iconst 4, 1) := by decide +kernel
theorem d_PM_count_29 : decode b_PM_count 29 = .ok (.if_icmp .ge 74, 3) := by decide +kernel
theorem d_PM_count_32 : decode b_PM_count 32 = .ok (.aload_n 0, 1) := by decide +kernel
theorem d_PM_count_33 : decode b_PM_count 33 = .ok (.iload 6, 2) := by decide +kernel
theorem d_PM_count_35 : decode b_PM_count 35 = .ok (.invokevirtual 72, 3) := by decide +kernel
theorem d_PM_count_38 : decode b_PM_count 38 = .ok (.ifCond .eq 9, 3) := by decide +kernel
theorem d_PM_count_41 : decode b_PM_count 41 = .ok (.iload_n 2, 1) := by decide +kernel
theorem d_PM_count_42 : decode b_PM_count 42 = .ok (.iconst 1, 1) := by decide +kernel
theorem d_PM_count_43 : decode b_PM_count 43 = .ok (.iadd, 1) := by decide +kernel
theorem d_PM_count_44 : decode b_PM_count 44 = .ok (.goto 4, 3) := by decide +kernel
theorem d_PM_count_47 : decode b_PM_count 47 = .ok (.iload_n 2, 1) := by decide +kernel
theorem d_PM_count_48 : decode b_PM_count 48 = .ok (.istore_n 2, 1) := by decide +kernel
theorem d_PM_count_49 : decode b_PM_count 49 = .ok (.iload_n 1, 1) := by decide +kernel
theorem d_PM_count_50 : decode b_PM_count 50 = .ok (.iconst 1, 1) := by decide +kernel
theorem d_PM_count_51 : decode b_PM_count 51 = .ok (.if_icmp .le 16, 3) := by decide +kernel
theorem d_PM_count_54 : decode b_PM_count 54 = .ok (.aload_n 0, 1) := by decide +kernel
theorem d_PM_count_55 : decode b_PM_count 55 = .ok (.iload 6, 2) := by decide +kernel
theorem d_PM_count_57 : decode b_PM_count 57 = .ok (.invokevirtual 82, 3) := by decide +kernel
theorem d_PM_count_60 : decode b_PM_count 60 = .ok (.ifCond .le 7, 3) := by decide +kernel
theorem d_PM_count_63 : decode b_PM_count 63 = .ok (.iconst 1, 1) := by decide +kernel
theorem d_PM_count_64 : decode b_PM_count 64 = .ok (.goto 4, 3) := by decide +kernel
theorem d_PM_count_67 : decode b_PM_count 67 = .ok (.iconst 0, 1) := by decide +kernel
theorem d_PM_count_68 : decode b_PM_count 68 = .ok (.istore 7, 2) := by decide +kernel
theorem d_PM_count_70 : decode b_PM_count 70 = .ok (.iload 7, 2) := by decide +kernel
theorem d_PM_count_72 : decode b_PM_count 72 = .ok (.ifCond .eq 9, 3) := by decide +kernel
theorem d_PM_count_75 : decode b_PM_count 75 = .ok (.iload_n 3, 1) := by decide +kernel
theorem d_PM_count_76 : decode b_PM_count 76 = .ok (.iconst 1, 1) := by decide +kernel
theorem d_PM_count_77 : decode b_PM_count 77 = .ok (.iadd, 1) := by decide +kernel
theorem d_PM_count_78 : decode b_PM_count 78 = .ok (.goto 4, 3) := by decide +kernel
theorem d_PM_count_81 : decode b_PM_count 81 = .ok (.iload_n 3, 1) := by decide +kernel
theorem d_PM_count_82 : decode b_PM_count 82 = .ok (.istore_n 3, 1) := by decide +kernel
theorem d_PM_count_83 : decode b_PM_count 83 = .ok (.iload 7, 2) := by decide +kernel
theorem d_PM_count_85 : decode b_PM_count 85 = .ok (.ifCond .eq 8, 3) := by decide +kernel
theorem d_PM_count_88 : decode b_PM_count 88 = .ok (.iload 6, 2) := by decide +kernel
theorem d_PM_count_90 : decode b_PM_count 90 = .ok (.goto 5, 3) := by decide +kernel
theorem d_PM_count_93 : decode b_PM_count 93 = .ok (.iload 4, 2) := by decide +kernel
theorem d_PM_count_95 : decode b_PM_count 95 = .ok (.istore 4, 2) := by decide +kernel
theorem d_PM_count_97 : decode b_PM_count 97 = .ok (.iinc 6 (-1), 3) := by decide +kernel
theorem d_PM_count_100 : decode b_PM_count 100 = .ok (.goto (-82), 3) := by decide +kernel
theorem d_PM_count_103 : decode b_PM_count 103 = .ok (.iconst 0, 1) := by decide +kernel
theorem d_PM_count_104 : decode b_PM_count 104 = .ok (.istore 6, 2) := by decide +kernel
theorem d_PM_count_106 : decode b_PM_count 106 = .ok (.iload 6, 2) := by decide +kernel
theorem d_PM_count_108 : decode b_PM_count 108 = .ok (.aload_n 0, 1) := by decide +kernel
theorem d_PM_count_109 : decode b_PM_count 109 = .ok (.getfield 44, 3) := by decide +kernel
theorem d_PM_count_112 : decode b_PM_count 112 = .ok (.if_icmp .ge 21, 3) := by decide +kernel
theorem d_PM_count_115 : decode b_PM_count 115 = .ok (.iload 5, 2) := by decide +kernel
theorem d_PM_count_117 : decode b_PM_count 117 = .ok (.aload_n 0, 1) := by decide +kernel
theorem d_PM_count_118 : decode b_PM_count 118 = .ok (.getfield 7, 3) := by decide +kernel
theorem d_PM_count_121 : decode b_PM_count 121 = .ok (.iload 6, 2) := by decide +kernel
theorem d_PM_count_123 : decode b_PM_count 123 = .ok (.iaload, 1) := by decide +kernel
theorem d_PM_count_124 : decode b_PM_count 124 = .ok (.iadd, 1) := by decide +kernel
theorem d_PM_count_125 : decode b_PM_count 125 = .ok (.istore 5, 2) := by decide +kernel
theorem d_PM_count_127 : decode b_PM_count 127 = .ok (.iinc 6 1, 3) := by decide +kernel
theorem d_PM_count_130 : decode b_PM_count 130 = .ok (.goto (-24), 3) := by decide +kernel
theorem d_PM_count_133 : decode b_PM_count 133 = .ok (.iload_n 1, 1) := by decide +kernel
theorem d_PM_count_134 : decode b_PM_count 134 = .ok (.ifCond .ne 10, 3) := by decide +kernel
theorem d_PM_count_137 : decode b_PM_count 137 = .ok (.aload_n 0, 1) := by decide +kernel
theorem d_PM_count_138 : decode b_PM_count 138 = .ok (.getfield 48, 3) := by decide +kernel
theorem d_PM_count_141 : decode b_PM_count 141 = .ok (.goto 54, 3) := by decide +kernel
theorem d_PM_count_144 : decode b_PM_count 144 = .ok (.iload_n 1, 1) := by decide +kernel
theorem d_PM_count_145 : decode b_PM_count 145 = .ok (.iconst 1, 1) := by decide +kernel
theorem d_PM_count_146 : decode b_PM_count 146 = .ok (.if_icmp .ne 7, 3) := by decide +kernel
theorem d_PM_count_149 : decode b_PM_count 149 = .ok (.iload_n 2, 1) := by decide +kernel
theorem d_PM_count_150 : decode b_PM_count 150 = .ok (.goto 45, 3) := by decide +kernel
theorem d_PM_count_153 : decode b_PM_count 153 = .ok (.iload_n 1, 1) := by decide +kernel
theorem d_PM_count_154 : decode b_PM_count 154 = .ok (.iconst 2, 1) := by decide +kernel
theorem d_PM_count_155 : decode b_PM_count 155 = .ok (.if_icmp .ne 7, 3) := by decide +kernel
theorem d_PM_count_158 : decode b_PM_count 158 = .ok (.iload_n 3, 1) := by decide +kernel
theorem d_PM_count_159 : decode b_PM_count 159 = .ok (.goto 36, 3) := by decide +kernel
theorem d_PM_count_162 : decode b_PM_count 162 = .ok (.iload_n 1, 1) := by decide +kernel
theorem d_PM_count_163 : decode b_PM_count 163 = .ok (.iconst 3, 1) := by decide +kernel
theorem d_PM_count_164 : decode b_PM_count 164 = .ok (.if_icmp .ne 8, 3) := by decide +kernel
theorem d_PM_count_167 : decode b_PM_count 167 = .ok (.iload 4, 2) := by decide +kernel
theorem d_PM_count_169 : decode b_PM_count 169 = .ok (.goto 26, 3) := by decide +kernel
theorem d_PM_count_172 : decode b_PM_count 172 = .ok (.iload_n 1, 1) := by decide +kernel
theorem d_PM_count_173 : decode b_PM_count 173 = .ok (.iconst 4, 1) := by decide +kernel
theorem d_PM_count_174 : decode b_PM_count 174 = .ok (.if_icmp .ne 10, 3) := by decide +kernel
theorem d_PM_count_177 : decode b_PM_count 177 = .ok (.aload_n 0, 1) := by decide +kernel
theorem d_PM_count_178 : decode b_PM_count 178 = .ok (.getfield 44, 3) := by decide +kernel
theorem d_PM_count_181 : decode b_PM_count 181 = .ok (.goto 14, 3) := by decide +kernel
theorem d_PM_count_184 : decode b_PM_count 184 = .ok (.iload_n 1, 1) := by decide +kernel
theorem d_PM_count_185 : decode b_PM_count 185 = .ok (.iconst 5, 1) := by decide +kernel
theorem d_PM_count_186 : decode b_PM_count 186 = .ok (.if_icmp .ne 8, 3) := by decide +kernel
theorem d_PM_count_189 : decode b_PM_count 189 = .ok (.iload 5, 2) := by decide +kernel
theorem d_PM_count_191 : decode b_PM_count 191 = .ok (.goto 4, 3) := by decide +kernel
theorem d_PM_count_194 : decode b_PM_count 194 = .ok (.iconst (-1), 1) := by decide +kernel
theorem d_PM_count_195 : decode b_PM_count 195 = .ok (.ireturn, 1) := by decide +kernel
theorem d_PM_clear_0 : decode b_PM_clear 0 = .ok (.aload_n 0, 1) := by decide +kernel
theorem d_PM_clear_1 : decode b_PM_clear 1 = .ok (.getfield 48, 3) := by decide +kernel
theorem d_PM_clear_4 : decode b_PM_clear 4 = .ok (.istore_n 1, 1) := by decide +kernel
theorem d_PM_clear_5 : decode b_PM_clear 5 = .ok (.aload_n 0, 1) := by decide +kernel
theorem d_PM_clear_6 : decode b_PM_clear 6 = .ok (.iconst 0, 1) := by decide +kernel
theorem d_PM_clear_7 : decode b_PM_clear 7 = .ok (.putfield 48, 3) := by decide +kernel
theorem d_PM_clear_10 : decode b_PM_clear 10 = .ok (.iload_n 1, 1) := by decide +kernel
theorem d_PM_clear_11 : decode b_PM_clear 11 = .ok (.ireturn, 1) := by decide +kernel
end
section
theorem d_law_law_0 : decode b_law_law 0 = .ok (.new 7, 3) := by decide +kernel
theorem d_law_law_3 : decode b_law_law 3 = .ok (.dup, 1) := by decide +kernel
theorem d_law_law_4 : decode b_law_law 4 = .ok (.invokespecial 9, 3) := by decide +kernel
theorem d_law_law_7 : decode b_law_law 7 = .ok (.astore_n 1, 1) := by decide +kernel
theorem d_law_law_8 : decode b_law_law 8 = .ok (.new 10, 3) := by decide +kernel
theorem d_law_law_11 : decode b_law_law 11 = .ok (.dup, 1) := by decide +kernel
theorem d_law_law_12 : decode b_law_law 12 = .ok (.invokespecial 12, 3) := by decide +kernel
theorem d_law_law_15 : decode b_law_law 15 = .ok (.astore_n 2, 1) := by decide +kernel
theorem d_law_law_16 : decode b_law_law 16 = .ok (.iconst 0, 1) := by decide +kernel
theorem d_law_law_17 : decode b_law_law 17 = .ok (.istore_n 3, 1) := by decide +kernel
theorem d_law_law_18 : decode b_law_law 18 = .ok (.iload_n 3, 1) := by decide +kernel
theorem d_law_law_19 : decode b_law_law 19 = .ok (.aload_n 0, 1) := by decide +kernel
theorem d_law_law_20 : decode b_law_law 20 = .ok (.arraylength, 1) := by decide +kernel
theorem d_law_law_21 : decode b_law_law 21 = .ok (.iconst 5, 1) := by decide +kernel
theorem d_law_law_22 : decode b_law_law 22 = .ok (.isub, 1) := by decide +kernel
theorem d_law_law_23 : decode b_law_law 23 = .ok (.if_icmp .gt 386, 3) := by decide +kernel
theorem d_law_law_26 : decode b_law_law 26 = .ok (.aload_n 0, 1) := by decide +kernel
theorem d_law_law_27 : decode b_law_law 27 = .ok (.iload_n 3, 1) := by decide +kernel
theorem d_law_law_28 : decode b_law_law 28 = .ok (.iaload, 1) := by decide +kernel
theorem d_law_law_29 : decode b_law_law 29 = .ok (.bipush 15, 2) := by decide +kernel
theorem d_law_law_31 : decode b_law_law 31 = .ok (.iand, 1) := by decide +kernel
theorem d_law_law_32 : decode b_law_law 32 = .ok (.tableswitch 371 0 8 #[52, 127, 180, 223, 246, 279, 312, 335, 358], 52) := by decide +kernel
theorem d_law_law_84 : decode b_law_law 84 = .ok (.aload_n 1, 1) := by decide +kernel
theorem d_law_law_85 : decode b_law_law 85 = .ok (.aload_n 0, 1) := by decide +kernel
theorem d_law_law_86 : decode b_law_law 86 = .ok (.iload_n 3, 1) := by decide +kernel
theorem d_law_law_87 : decode b_law_law 87 = .ok (.iconst 1, 1) := by decide +kernel
theorem d_law_law_88 : decode b_law_law 88 = .ok (.iadd, 1) := by decide +kernel
theorem d_law_law_89 : decode b_law_law 89 = .ok (.iaload, 1) := by decide +kernel
theorem d_law_law_90 : decode b_law_law 90 = .ok (.aload_n 0, 1) := by decide +kernel
theorem d_law_law_91 : decode b_law_law 91 = .ok (.iload_n 3, 1) := by decide +kernel
theorem d_law_law_92 : decode b_law_law 92 = .ok (.iconst 2, 1) := by decide +kernel
theorem d_law_law_93 : decode b_law_law 93 = .ok (.iadd, 1) := by decide +kernel
theorem d_law_law_94 : decode b_law_law 94 = .ok (.iaload, 1) := by decide +kernel
theorem d_law_law_95 : decode b_law_law 95 = .ok (.ifCond .eq 7, 3) := by decide +kernel
theorem d_law_law_98 : decode b_law_law 98 = .ok (.iconst 1, 1) := by decide +kernel
theorem d_law_law_99 : decode b_law_law 99 = .ok (.goto 4, 3) := by decide +kernel
theorem d_law_law_102 : decode b_law_law 102 = .ok (.iconst 0, 1) := by decide +kernel
theorem d_law_law_103 : decode b_law_law 103 = .ok (.aload_n 0, 1) := by decide +kernel
theorem d_law_law_104 : decode b_law_law 104 = .ok (.iload_n 3, 1) := by decide +kernel
theorem d_law_law_105 : decode b_law_law 105 = .ok (.iconst 3, 1) := by decide +kernel
theorem d_law_law_106 : decode b_law_law 106 = .ok (.iadd, 1) := by decide +kernel
theorem d_law_law_107 : decode b_law_law 107 = .ok (.iaload, 1) := by decide +kernel
theorem d_law_law_108 : decode b_law_law 108 = .ok (.ifCond .eq 7, 3) := by decide +kernel
theorem d_law_law_111 : decode b_law_law 111 = .ok (.iconst 1, 1) := by decide +kernel
theorem d_law_law_112 : decode b_law_law 112 = .ok (.goto 4, 3) := by decide +kernel
theorem d_law_law_115 : decode b_law_law 115 = .ok (.iconst 0, 1) := by decide +kernel
theorem d_law_law_116 : decode b_law_law 116 = .ok (.invokevirtual 13, 3) := by decide +kernel
theorem d_law_law_119 : decode b_law_law 119 = .ok (.aload_n 2, 1) := by decide +kernel
theorem d_law_law_120 : decode b_law_law 120 = .ok (.aload_n 0, 1) := by decide +kernel
theorem d_law_law_121 : decode b_law_law 121 = .ok (.iload_n 3, 1) := by decide +kernel
theorem d_law_law_122 : decode b_law_law 122 = .ok (.iconst 1, 1) := by decide +kernel
theorem d_law_law_123 : decode b_law_law 123 = .ok (.iadd, 1) := by decide +kernel
theorem d_law_law_124 : decode b_law_law 124 = .ok (.iaload, 1) := by decide +kernel
theorem d_law_law_125 : decode b_law_law 125 = .ok (.aload_n 0, 1) := by decide +kernel
theorem d_law_law_126 : decode b_law_law 126 = .ok (.iload_n 3, 1) := by decide +kernel
theorem d_law_law_127 : decode b_law_law 127 = .ok (.iconst 2, 1) := by decide +kernel
theorem d_law_law_128 : decode b_law_law 128 = .ok (.iadd, 1) := by decide +kernel
theorem d_law_law_129 : decode b_law_law 129 = .ok (.iaload, 1) := by decide +kernel
theorem d_law_law_130 : decode b_law_law 130 = .ok (.ifCond .eq 7, 3) := by decide +kernel
theorem d_law_law_133 : decode b_law_law 133 = .ok (.iconst 1, 1) := by decide +kernel
theorem d_law_law_134 : decode b_law_law 134 = .ok (.goto 4, 3) := by decide +kernel
theorem d_law_law_137 : decode b_law_law 137 = .ok (.iconst 0, 1) := by decide +kernel
theorem d_law_law_138 : decode b_law_law 138 = .ok (.aload_n 0, 1) := by decide +kernel
theorem d_law_law_139 : decode b_law_law 139 = .ok (.iload_n 3, 1) := by decide +kernel
theorem d_law_law_140 : decode b_law_law 140 = .ok (.iconst 3, 1) := by decide +kernel
theorem d_law_law_141 : decode b_law_law 141 = .ok (.iadd, 1) := by decide +kernel
theorem d_law_law_142 : decode b_law_law 142 = .ok (.iaload, 1) := by decide +kernel
theorem d_law_law_143 : decode b_law_law 143 = .ok (.ifCond .eq 7, 3) := by decide +kernel
theorem d_law_law_146 : decode b_law_law 146 = .ok (.iconst 1, 1) := by decide +kernel
theorem d_law_law_147 : decode b_law_law 147 = .ok (.goto 4, 3) := by decide +kernel
theorem d_law_law_150 : decode b_law_law 150 = .ok (.iconst 0, 1) := by decide +kernel
theorem d_law_law_151 : decode b_law_law 151 = .ok (.invokevirtual 17, 3) := by decide +kernel
theorem d_law_law_154 : decode b_law_law 154 = .ok (.if_icmp .eq 249, 3) := by decide +kernel
theorem d_law_law_157 : decode b_law_law 157 = .ok (.iconst 0, 1) := by decide +kernel
theorem d_law_law_158 : decode b_law_law 158 = .ok (.ireturn, 1) := by decide +kernel
theorem d_law_law_159 : decode b_law_law 159 = .ok (.aload_n 1, 1) := by decide +kernel
theorem d_law_law_160 : decode b_law_law 160 = .ok (.aload_n 0, 1) := by decide +kernel
theorem d_law_law_161 : decode b_law_law 161 = .ok (.iload_n 3, 1) := by decide +kernel
theorem d_law_law_162 : decode b_law_law 162 = .ok (.iconst 1, 1) := by decide +kernel
theorem d_law_law_163 : decode b_law_law 163 = .ok (.iadd, 1) := by decide +kernel
theorem d_law_law_164 : decode b_law_law 164 = .ok (.iaload, 1) := by decide +kernel
theorem d_law_law_165 : decode b_law_law 165 = .ok (.aload_n 0, 1) := by decide +kernel
theorem d_law_law_166 : decode b_law_law 166 = .ok (.iload_n 3, 1) := by decide +kernel
theorem d_law_law_167 : decode b_law_law 167 = .ok (.iconst 2, 1) := by decide +kernel
theorem d_law_law_168 : decode b_law_law 168 = .ok (.iadd, 1) := by decide +kernel
theorem d_law_law_169 : decode b_law_law 169 = .ok (.iaload, 1) := by decide +kernel
theorem d_law_law_170 : decode b_law_law 170 = .ok (.aload_n 0, 1) := by decide +kernel
theorem d_law_law_171 : decode b_law_law 171 = .ok (.iload_n 3, 1) := by decide +kernel
theorem d_law_law_172 : decode b_law_law 172 = .ok (.iconst 3, 1) := by decide +kernel
theorem d_law_law_173 : decode b_law_law 173 = .ok (.iadd, 1) := by decide +kernel
theorem d_law_law_174 : decode b_law_law 174 = .ok (.iaload, 1) := by decide +kernel
theorem d_law_law_175 : decode b_law_law 175 = .ok (.aload_n 0, 1) := by decide +kernel
theorem d_law_law_176 : decode b_law_law 176 = .ok (.iload_n 3, 1) := by decide +kernel
theorem d_law_law_177 : decode b_law_law 177 = .ok (.iconst 4, 1) := by decide +kernel
theorem d_law_law_178 : decode b_law_law 178 = .ok (.iadd, 1) := by decide +kernel
theorem d_law_law_179 : decode b_law_law 179 = .ok (.iaload, 1) := by decide +kernel
theorem d_law_law_180 : decode b_law_law 180 = .ok (.invokevirtual 18, 3) := by decide +kernel
theorem d_law_law_183 : decode b_law_law 183 = .ok (.aload_n 2, 1) := by decide +kernel
theorem d_law_law_184 : decode b_law_law 184 = .ok (.aload_n 0, 1) := by decide +kernel
theorem d_law_law_185 : decode b_law_law 185 = .ok (.iload_n 3, 1) := by decide +kernel
theorem d_law_law_186 : decode b_law_law 186 = .ok (.iconst 1, 1) := by decide +kernel
theorem d_law_law_187 : decode b_law_law 187 = .ok (.iadd, 1) := by decide +kernel
theorem d_law_law_188 : decode b_law_law 188 = .ok (.iaload, 1) := by decide +kernel
theorem d_law_law_189 : decode b_law_law 189 = .ok (.aload_n 0, 1) := by decide +kernel
theorem d_law_law_190 : decode b_law_law 190 = .ok (.iload_n 3, 1) := by decide +kernel
theorem d_law_law_191 : decode b_law_law 191 = .ok (.iconst 2, 1) := by decide +kernel
theorem d_law_law_192 : decode b_law_law 192 = .ok (.iadd, 1) := by decide +kernel
theorem d_law_law_193 : decode b_law_law 193 = .ok (.iaload, 1) := by decide +kernel
theorem d_law_law_194 : decode b_law_law 194 = .ok (.aload_n 0, 1) := by decide +kernel
theorem d_law_law_195 : decode b_law_law 195 = .ok (.iload_n 3, 1) := by decide +kernel
theorem d_law_law_196 : decode b_law_law 196 = .ok (.iconst 3, 1) := by decide +kernel
theorem d_law_law_197 : decode b_law_law 197 = .ok (.iadd, 1) := by decide +kernel
theorem d_law_law_198 : decode b_law_law 198 = .ok (.iaload, 1) := by decide +kernel
theorem d_law_law_199 : decode b_law_law 199 = .ok (.aload_n 0, 1) := by decide +kernel
theorem d_law_law_200 : decode b_law_law 200 = .ok (.iload_n 3, 1) := by decide +kernel
theorem d_law_law_201 : decode b_law_law 201 = .ok (.iconst 4, 1) := by decide +kernel
theorem d_law_law_202 : decode b_law_law 202 = .ok (.iadd, 1) := by decide +kernel
theorem d_law_law_203 : decode b_law_law 203 = .ok (.iaload, 1) := by decide +kernel
theorem d_law_law_204 : decode b_law_law 204 = .ok (.invokevirtual 22, 3) := by decide +kernel
theorem d_law_law_207 : decode b_law_law 207 = .ok (.if_icmp .eq 196, 3) := by decide +kernel
theorem d_law_law_210 : decode b_law_law 210 = .ok (.iconst 0, 1) := by decide +kernel
theorem d_law_law_211 : decode b_law_law 211 = .ok (.ireturn, 1) := by decide +kernel
theorem d_law_law_212 : decode b_law_law 212 = .ok (.aload_n 1, 1) := by decide +kernel
theorem d_law_law_213 : decode b_law_law 213 = .ok (.aload_n 0, 1) := by decide +kernel
theorem d_law_law_214 : decode b_law_law 214 = .ok (.iload_n 3, 1) := by decide +kernel
theorem d_law_law_215 : decode b_law_law 215 = .ok (.iconst 1, 1) := by decide +kernel
theorem d_law_law_216 : decode b_law_law 216 = .ok (.iadd, 1) := by decide +kernel
theorem d_law_law_217 : decode b_law_law 217 = .ok (.iaload, 1) := by decide +kernel
theorem d_law_law_218 : decode b_law_law 218 = .ok (.aload_n 0, 1) := by decide +kernel
theorem d_law_law_219 : decode b_law_law 219 = .ok (.iload_n 3, 1) := by decide +kernel
theorem d_law_law_220 : decode b_law_law 220 = .ok (.iconst 2, 1) := by decide +kernel
theorem d_law_law_221 : decode b_law_law 221 = .ok (.iadd, 1) := by decide +kernel
theorem d_law_law_222 : decode b_law_law 222 = .ok (.iaload, 1) := by decide +kernel
theorem d_law_law_223 : decode b_law_law 223 = .ok (.aload_n 0, 1) := by decide +kernel
theorem d_law_law_224 : decode b_law_law 224 = .ok (.iload_n 3, 1) := by decide +kernel
theorem d_law_law_225 : decode b_law_law 225 = .ok (.iconst 3, 1) := by decide +kernel
theorem d_law_law_226 : decode b_law_law 226 = .ok (.iadd, 1) := by decide +kernel
theorem d_law_law_227 : decode b_law_law 227 = .ok (.iaload, 1) := by decide +kernel
theorem d_law_law_228 : decode b_law_law 228 = .ok (.invokevirtual 23, 3) := by decide +kernel
theorem d_law_law_231 : decode b_law_law 231 = .ok (.aload_n 2, 1) := by decide +kernel
theorem d_law_law_232 : decode b_law_law 232 = .ok (.aload_n 0, 1) := by decide +kernel
theorem d_law_law_233 : decode b_law_law 233 = .ok (.iload_n 3, 1) := by decide +kernel
theorem d_law_law_234 : decode b_law_law 234 = .ok (.iconst 1, 1) := by decide +kernel
theorem d_law_law_235 : decode b_law_law 235 = .ok (.iadd, 1) := by decide +kernel
theorem d_law_law_236 : decode b_law_law 236 = .ok (.iaload, 1) := by decide +kernel
theorem d_law_law_237 : decode b_law_law 237 = .ok (.aload_n 0, 1) := by decide +kernel
theorem d_law_law_238 : decode b_law_law 238 = .ok (.iload_n 3, 1) := by decide +kernel
theorem d_law_law_239 : decode b_law_law 239 = .ok (.iconst 2, 1) := by decide +kernel
theorem d_law_law_240 : decode b_law_law 240 = .ok (.iadd, 1) := by decide +kernel
theorem d_law_law_241 : decode b_law_law 241 = .ok (.iaload, 1) := by decide +kernel
theorem d_law_law_242 : decode b_law_law 242 = .ok (.aload_n 0, 1) := by decide +kernel
theorem d_law_law_243 : decode b_law_law 243 = .ok (.iload_n 3, 1) := by decide +kernel
theorem d_law_law_244 : decode b_law_law 244 = .ok (.iconst 3, 1) := by decide +kernel
theorem d_law_law_245 : decode b_law_law 245 = .ok (.iadd, 1) := by decide +kernel
theorem d_law_law_246 : decode b_law_law 246 = .ok (.iaload, 1) := by decide +kernel
theorem d_law_law_247 : decode b_law_law 247 = .ok (.invokevirtual 27, 3) := by decide +kernel
theorem d_law_law_250 : decode b_law_law 250 = .ok (.if_icmp .eq 153, 3) := by decide +kernel
theorem d_law_law_253 : decode b_law_law 253 = .ok (.iconst 0, 1) := by decide +kernel
theorem d_law_law_254 : decode b_law_law 254 = .ok (.ireturn, 1) := by decide +kernel
theorem d_law_law_255 : decode b_law_law 255 = .ok (.aload_n 1, 1) := by decide +kernel
theorem d_law_law_256 : decode b_law_law 256 = .ok (.aload_n 0, 1) := by decide +kernel
theorem d_law_law_257 : decode b_law_law 257 = .ok (.iload_n 3, 1) := by decide +kernel
theorem d_law_law_258 : decode b_law_law 258 = .ok (.iconst 1, 1) := by decide +kernel
theorem d_law_law_259 : decode b_law_law 259 = .ok (.iadd, 1) := by decide +kernel
theorem d_law_law_260 : decode b_law_law 260 = .ok (.iaload, 1) := by decide +kernel
theorem d_law_law_261 : decode b_law_law 261 = .ok (.invokevirtual 28, 3) := by decide +kernel
theorem d_law_law_264 : decode b_law_law 264 = .ok (.aload_n 2, 1) := by decide +kernel
theorem d_law_law_265 : decode b_law_law 265 = .ok (.aload_n 0, 1) := by decide +kernel
theorem d_law_law_266 : decode b_law_law 266 = .ok (.iload_n 3, 1) := by decide +kernel
theorem d_law_law_267 : decode b_law_law 267 = .ok (.iconst 1, 1) := by decide +kernel
theorem d_law_law_268 : decode b_law_law 268 = .ok (.iadd, 1) := by decide +kernel
theorem d_law_law_269 : decode b_law_law 269 = .ok (.iaload, 1) := by decide +kernel
theorem d_law_law_270 : decode b_law_law 270 = .ok (.invokevirtual 32, 3) := by decide +kernel
theorem d_law_law_273 : decode b_law_law 273 = .ok (.if_icmp .eq 130, 3) := by decide +kernel
theorem d_law_law_276 : decode b_law_law 276 = .ok (.iconst 0, 1) := by decide +kernel
theorem d_law_law_277 : decode b_law_law 277 = .ok (.ireturn, 1) := by decide +kernel
theorem d_law_law_278 : decode b_law_law 278 = .ok (.aload_n 1, 1) := by decide +kernel
theorem d_law_law_279 : decode b_law_law 279 = .ok (.aload_n 0, 1) := by decide +kernel
theorem d_law_law_280 : decode b_law_law 280 = .ok (.iload_n 3, 1) := by decide +kernel
theorem d_law_law_281 : decode b_law_law 281 = .ok (.iconst 1, 1) := by decide +kernel
theorem d_law_law_282 : decode b_law_law 282 = .ok (.iadd, 1) := by decide +kernel
theorem d_law_law_283 : decode b_law_law 283 = .ok (.iaload, 1) := by decide +kernel
theorem d_law_law_284 : decode b_law_law 284 = .ok (.aload_n 0, 1) := by decide +kernel
theorem d_law_law_285 : decode b_law_law 285 = .ok (.iload_n 3, 1) := by decide +kernel
theorem d_law_law_286 : decode b_law_law 286 = .ok (.iconst 2, 1) := by decide +kernel
theorem d_law_law_287 : decode b_law_law 287 = .ok (.iadd, 1) := by decide +kernel
theorem d_law_law_288 : decode b_law_law 288 = .ok (.iaload, 1) := by decide +kernel
theorem d_law_law_289 : decode b_law_law 289 = .ok (.invokevirtual 33, 3) := by decide +kernel
theorem d_law_law_292 : decode b_law_law 292 = .ok (.aload_n 2, 1) := by decide +kernel
theorem d_law_law_293 : decode b_law_law 293 = .ok (.aload_n 0, 1) := by decide +kernel
theorem d_law_law_294 : decode b_law_law 294 = .ok (.iload_n 3, 1) := by decide +kernel
theorem d_law_law_295 : decode b_law_law 295 = .ok (.iconst 1, 1) := by decide +kernel
theorem d_law_law_296 : decode b_law_law 296 = .ok (.iadd, 1) := by decide +kernel
theorem d_law_law_297 : decode b_law_law 297 = .ok (.iaload, 1) := by decide +kernel
theorem d_law_law_298 : decode b_law_law 298 = .ok (.aload_n 0, 1) := by decide +kernel
theorem d_law_law_299 : decode b_law_law 299 = .ok (.iload_n 3, 1) := by decide +kernel
theorem d_law_law_300 : decode b_law_law 300 = .ok (.iconst 2, 1) := by decide +kernel
theorem d_law_law_301 : decode b_law_law 301 = .ok (.iadd, 1) := by decide +kernel
theorem d_law_law_302 : decode b_law_law 302 = .ok (.iaload, 1) := by decide +kernel
theorem d_law_law_303 : decode b_law_law 303 = .ok (.invokevirtual 37, 3) := by decide +kernel
theorem d_law_law_306 : decode b_law_law 306 = .ok (.if_icmp .eq 97, 3) := by decide +kernel
theorem d_law_law_309 : decode b_law_law 309 = .ok (.iconst 0, 1) := by decide +kernel
theorem d_law_law_310 : decode b_law_law 310 = .ok (.ireturn, 1) := by decide +kernel
theorem d_law_law_311 : decode b_law_law 311 = .ok (.aload_n 1, 1) := by decide +kernel
theorem d_law_law_312 : decode b_law_law 312 = .ok (.aload_n 0, 1) := by decide +kernel
theorem d_law_law_313 : decode b_law_law 313 = .ok (.iload_n 3, 1) := by decide +kernel
theorem d_law_law_314 : decode b_law_law 314 = .ok (.iconst 1, 1) := by decide +kernel
theorem d_law_law_315 : decode b_law_law 315 = .ok (.iadd, 1) := by decide +kernel
theorem d_law_law_316 : decode b_law_law 316 = .ok (.iaload, 1) := by decide +kernel
theorem d_law_law_317 : decode b_law_law 317 = .ok (.aload_n 0, 1) := by decide +kernel
theorem d_law_law_318 : decode b_law_law 318 = .ok (.iload_n 3, 1) := by decide +kernel
theorem d_law_law_319 : decode b_law_law 319 = .ok (.iconst 2, 1) := by decide +kernel
theorem d_law_law_320 : decode b_law_law 320 = .ok (.iadd, 1) := by decide +kernel
theorem d_law_law_321 : decode b_law_law 321 = .ok (.iaload, 1) := by decide +kernel
theorem d_law_law_322 : decode b_law_law 322 = .ok (.invokevirtual 38, 3) := by decide +kernel
theorem d_law_law_325 : decode b_law_law 325 = .ok (.aload_n 2, 1) := by decide +kernel
theorem d_law_law_326 : decode b_law_law 326 = .ok (.aload_n 0, 1) := by decide +kernel
theorem d_law_law_327 : decode b_law_law 327 = .ok (.iload_n 3, 1) := by decide +kernel
theorem d_law_law_328 : decode b_law_law 328 = .ok (.iconst 1, 1) := by decide +kernel
theorem d_law_law_329 : decode b_law_law 329 = .ok (.iadd, 1) := by decide +kernel
theorem d_law_law_330 : decode b_law_law 330 = .ok (.iaload, 1) := by decide +kernel
theorem d_law_law_331 : decode b_law_law 331 = .ok (.aload_n 0, 1) := by decide +kernel
theorem d_law_law_332 : decode b_law_law 332 = .ok (.iload_n 3, 1) := by decide +kernel
theorem d_law_law_333 : decode b_law_law 333 = .ok (.iconst 2, 1) := by decide +kernel
theorem d_law_law_334 : decode b_law_law 334 = .ok (.iadd, 1) := by decide +kernel
theorem d_law_law_335 : decode b_law_law 335 = .ok (.iaload, 1) := by decide +kernel
theorem d_law_law_336 : decode b_law_law 336 = .ok (.invokevirtual 41, 3) := by decide +kernel
theorem d_law_law_339 : decode b_law_law 339 = .ok (.if_icmp .eq 64, 3) := by decide +kernel
theorem d_law_law_342 : decode b_law_law 342 = .ok (.iconst 0, 1) := by decide +kernel
theorem d_law_law_343 : decode b_law_law 343 = .ok (.ireturn, 1) := by decide +kernel
theorem d_law_law_344 : decode b_law_law 344 = .ok (.aload_n 1, 1) := by decide +kernel
theorem d_law_law_345 : decode b_law_law 345 = .ok (.aload_n 0, 1) := by decide +kernel
theorem d_law_law_346 : decode b_law_law 346 = .ok (.iload_n 3, 1) := by decide +kernel
theorem d_law_law_347 : decode b_law_law 347 = .ok (.iconst 1, 1) := by decide +kernel
theorem d_law_law_348 : decode b_law_law 348 = .ok (.iadd, 1) := by decide +kernel
theorem d_law_law_349 : decode b_law_law 349 = .ok (.iaload, 1) := by decide +kernel
theorem d_law_law_350 : decode b_law_law 350 = .ok (.invokevirtual 42, 3) := by decide +kernel
theorem d_law_law_353 : decode b_law_law 353 = .ok (.aload_n 2, 1) := by decide +kernel
theorem d_law_law_354 : decode b_law_law 354 = .ok (.aload_n 0, 1) := by decide +kernel
theorem d_law_law_355 : decode b_law_law 355 = .ok (.iload_n 3, 1) := by decide +kernel
theorem d_law_law_356 : decode b_law_law 356 = .ok (.iconst 1, 1) := by decide +kernel
theorem d_law_law_357 : decode b_law_law 357 = .ok (.iadd, 1) := by decide +kernel
theorem d_law_law_358 : decode b_law_law 358 = .ok (.iaload, 1) := by decide +kernel
theorem d_law_law_359 : decode b_law_law 359 = .ok (.invokevirtual 46, 3) := by decide +kernel
theorem d_law_law_362 : decode b_law_law 362 = .ok (.if_icmp .eq 41, 3) := by decide +kernel
theorem d_law_law_365 : decode b_law_law 365 = .ok (.iconst 0, 1) := by decide +kernel
theorem d_law_law_366 : decode b_law_law 366 = .ok (.ireturn, 1) := by decide +kernel
theorem d_law_law_367 : decode b_law_law 367 = .ok (.aload_n 1, 1) := by decide +kernel
theorem d_law_law_368 : decode b_law_law 368 = .ok (.aload_n 0, 1) := by decide +kernel
theorem d_law_law_369 : decode b_law_law 369 = .ok (.iload_n 3, 1) := by decide +kernel
theorem d_law_law_370 : decode b_law_law 370 = .ok (.iconst 1, 1) := by decide +kernel
theorem d_law_law_371 : decode b_law_law 371 = .ok (.iadd, 1) := by decide +kernel
theorem d_law_law_372 : decode b_law_law 372 = .ok (.iaload, 1) := by decide +kernel
theorem d_law_law_373 : decode b_law_law 373 = .ok (.invokevirtual 47, 3) := by decide +kernel
theorem d_law_law_376 : decode b_law_law 376 = .ok (.aload_n 2, 1) := by decide +kernel
theorem d_law_law_377 : decode b_law_law 377 = .ok (.aload_n 0, 1) := by decide +kernel
theorem d_law_law_378 : decode b_law_law 378 = .ok (.iload_n 3, 1) := by decide +kernel
theorem d_law_law_379 : decode b_law_law 379 = .ok (.iconst 1, 1) := by decide +kernel
theorem d_law_law_380 : decode b_law_law 380 = .ok (.iadd, 1) := by decide +kernel
theorem d_law_law_381 : decode b_law_law 381 = .ok (.iaload, 1) := by decide +kernel
theorem d_law_law_382 : decode b_law_law 382 = .ok (.invokevirtual 50, 3) := by decide +kernel
theorem d_law_law_385 : decode b_law_law 385 = .ok (.if_icmp .eq 18, 3) := by decide +kernel
theorem d_law_law_388 : decode b_law_law 388 = .ok (.iconst 0, 1) := by decide +kernel
theorem d_law_law_389 : decode b_law_law 389 = .ok (.ireturn, 1) := by decide +kernel
theorem d_law_law_390 : decode b_law_law 390 = .ok (.aload_n 1, 1) := by decide +kernel
theorem d_law_law_391 : decode b_law_law 391 = .ok (.invokevirtual 51, 3) := by decide +kernel
theorem d_law_law_394 : decode b_law_law 394 = .ok (.aload_n 2, 1) := by decide +kernel
theorem d_law_law_395 : decode b_law_law 395 = .ok (.invokevirtual 55, 3) := by decide +kernel
theorem d_law_law_398 : decode b_law_law 398 = .ok (.if_icmp .eq 5, 3) := by decide +kernel
theorem d_law_law_401 : decode b_law_law 401 = .ok (.iconst 0, 1) := by decide +kernel
theorem d_law_law_402 : decode b_law_law 402 = .ok (.ireturn, 1) := by decide +kernel
theorem d_law_law_403 : decode b_law_law 403 = .ok (.iinc 3 5, 3) := by decide +kernel
theorem d_law_law_406 : decode b_law_law 406 = .ok (.goto (-388), 3) := by decide +kernel
theorem d_law_law_409 : decode b_law_law 409 = .ok (.iconst 1, 1) := by decide +kernel
theorem d_law_law_410 : decode b_law_law 410 = .ok (.ireturn, 1) := by decide +kernel
end
section
/-! My rows over the kit's: one context (Cx), one picture of the heap (Hp, over a world list), contracts CtI / CtV over the whole world list. -/
abbrev tysA (cA : Nat → ClassId) : List (ClassId × FieldType) := [(cA 0, .int), (cA 1, .boolean), (cA 2, .byte), (cA 3, .long), (cA 4, .object R_PP)]
def NWd (U : State) : Prop := va_Nw (.fieldLinkNest R_PF 94 R_PV "firsts" "[I" R_PF) U ∧ va_Nw (.fieldLinkNest R_PF 120 R_PV "once" "[Z" R_PF) U ∧ va_Nw (.fieldLinkNest R_PF 103 R_PV "given" "[Z" R_PF) U ∧ va_Nw (.fieldLinkNest R_PF 102 R_PV "size" "I" R_PF) U ∧ va_Nw (.methodLinkNest R_PF 9 y_PV_init R_PF) U ∧ va_Nw (.methodLinkNest R_PF 49 y_PP_init R_PF) U ∧ va_AO R_PP U
theorem NWd.warm {s U : State} (hW : s.WarmedH U.vm) (h : NWd s) : NWd U := ⟨va_Nw.warmF hW h.1, va_Nw.warmF hW h.2.1, va_Nw.warmF hW h.2.2.1, va_Nw.warmF hW h.2.2.2.1, va_Nw.warmM hW h.2.2.2.2.1, va_Nw.warmM hW h.2.2.2.2.2.1, va_AO.moved hW.alike h.2.2.2.2.2.2⟩
theorem NWd.same {u U : State} (hv : u.vm = U.vm) (h : NWd u) : NWd U := ⟨va_Nw.same rfl hv h.1, va_Nw.same rfl hv h.2.1, va_Nw.same rfl hv h.2.2.1, va_Nw.same rfl hv h.2.2.2.1, va_Nw.same rfl hv h.2.2.2.2.1, va_Nw.same rfl hv h.2.2.2.2.2.1, va_AO.moved (by rw [hv]; exact Vm.Alike.refl _) h.2.2.2.2.2.2⟩
def Kx (D : va_G) (cA : Nat → ClassId) (U : State) : Prop := va_K D classes (tysA cA) U ∧ NWd U
theorem Kx.warm {D : va_G} {cA : Nat → ClassId} {s U : State} (hW : s.WarmedH U.vm) (h : Kx D cA s) : Kx D cA U := ⟨va_K.moved hW.alike h.1, h.2.warm hW⟩
theorem Kx.same {D : va_G} {cA : Nat → ClassId} {u U : State} (hv : u.vm = U.vm) (h : Kx D cA u) : Kx D cA U := ⟨va_K.moved (by rw [hv]; exact Vm.Alike.refl _) h.1, h.2.same hv⟩
def Cx (p : Program) (s : State) (m : MethodId) (args : Array Value) (meth : Method) (c : Code) (cc : ByteArray) (nL : Nat) (own : String) (D : va_G) (cA : Nat → ClassId) : Prop :=
  p.tables.exec = Jvm.exec ∧ c.code = cc ∧ c.maxLocals = nL ∧ s.vm.findClass own = some m.cls ∧ (∀ w ∈ BW, w.before args s = true) ∧ Kx D cA s ∧ meth.locks = false
def Hp (A : Nat → Prop) (s : State) (D : va_G) (ws : va_W) (H : Heap) (locs : List Loc) : Prop := va_P D classes ws H ∧ va_D A ws ∧ va_S A s.heap H locs ∧ ∀ q : Nat, s.heap.size ≤ q → A q
/-- a contract's start and end, over the whole world list -/
def Pc0 (D : va_G) (cA : Nat → ClassId) (av : List Value) (ws : va_W) (sz : Nat) : Array Value → State → Prop := va_Pc av (fun U => U.heap.size = sz ∧ va_P D classes ws U.heap ∧ Kx D cA U ∧ va_D (fun _ => True) ws)
def Bo (D : va_G) (ws : va_W) (sz : Nat) (u : va_W) (t : State) : Prop := va_P D classes u t.heap ∧ va_D (va_A ws sz) u
def CtI (l : Launch) (y : MethodName) (b : ByteArray) (mL : Nat) (ret : Option FieldType) (rm : Room) (D : va_G) (cA : Nat → ClassId) (av : List Value) (ws : va_W) (post : Int32 → va_W → Prop) : Prop :=
  ∀ sz : Nat, Met l y (Cond.code y b mL ret :: BW) rm (Pc0 D cA av ws sz) (va_Qi post (Bo D ws sz) (va_A ws sz)) rm.cells rm.slots (va_A ws sz)
def CtV (l : Launch) (y : MethodName) (b : ByteArray) (mL : Nat) (ret : Option FieldType) (rm : Room) (D : va_G) (cA : Nat → ClassId) (av : List Value) (ws : va_W) (post : va_W → Prop) : Prop :=
  ∀ sz : Nat, Met l y (Cond.code y b mL ret :: BW) rm (Pc0 D cA av ws sz) (va_Qv post (Bo D ws sz) (va_A ws sz)) rm.cells rm.slots (va_A ws sz)
theorem Pc0.blind {D : va_G} {cA : Nat → ClassId} {av : List Value} {ws : va_W} {sz : Nat} : FrameBlind (Pc0 D cA av ws sz) := by
  intro a U g mk q
  obtain ⟨q0, q1, qP, qK, qD⟩ := q
  exact ⟨q0, q1, qP, Kx.same (u := U) (U := U.calling g mk a) rfl qK, qD⟩
section RW
variable {p : Program} {l : Launch} {e : Env} {R : Room} {s : State} {m : MethodId} {args : Array Value} {below : List Frame} {meth : Method} {c : Code} {H : Heap} {locs : List Loc} {cells slots : Nat} {Q : State → Prop}
variable {cc : ByteArray} {nL : Nat} {own : String} {D : va_G} {cA : Nat → ClassId} {A : Nat → Prop} {ws : va_W} {pc : Nat} {ls : Array Slot} {rest : List Value} {a : Nat}
theorem CtI.of {y : MethodName} {b : ByteArray} {mL : Nat} {ret : Option FieldType} {rm : Room} {av : List Value} {post : Int32 → va_W → Prop} (hy : plainName y.cls = true) (hlen : (lg_sl av).length ≤ mL)
    (body : ∀ (p : Program) (e : Env) (s : State) (m : MethodId) (below : List Frame) (meth : Method) (c : Code) (ls : Array Slot), Cx p s m av.toArray meth c b mL y.cls D cA → meth.name = y.name → meth.sig.returnType = ret → Hp (va_A ws s.heap.size) s D ws s.heap [] → lv_has ls mL (lv_args 0 av) →
      W p l e rm s m av.toArray below meth c s.heap [] 0 0 (MQ below (va_Qi post (Bo D ws s.heap.size) (va_A ws s.heap.size)) av.toArray s rm.cells rm.slots (va_A ws s.heap.size)) (F0 m 0 ls [])) : CtI l y b mL ret rm D cA av ws post := by
  intro sz
  refine Met.ofW (cc := b) (maxL := mL) (ret := ret) hy rfl ?_
  intro p e s m args below meth c s₁ B hml hv
  obtain ⟨rfl, hsz, hP, hK, hD0⟩ := hv
  subst hsz
  have hl := lv_entry av (n := mL) hlen
  rw [lg_entry_eq]
  exact body p e s m below meth c _ ⟨B.exec, B.bytes, hml, findClass_of_methodNamed B.named, fun w hw => atoms_spec (ws := Cond.code y b mL ret :: BW) B.pre w (List.mem_cons_of_mem _ hw), hK, B.notSynchronized⟩ (name_of_methodNamed B.named B.method).1 B.returns ⟨hP, hD0.self, va_S.rf, fun q h => Or.inr h⟩ hl
theorem CtV.of {y : MethodName} {b : ByteArray} {mL : Nat} {ret : Option FieldType} {rm : Room} {av : List Value} {post : va_W → Prop} (hy : plainName y.cls = true) (hlen : (lg_sl av).length ≤ mL)
    (body : ∀ (p : Program) (e : Env) (s : State) (m : MethodId) (below : List Frame) (meth : Method) (c : Code) (ls : Array Slot), Cx p s m av.toArray meth c b mL y.cls D cA → meth.name = y.name → meth.sig.returnType = ret → Hp (va_A ws s.heap.size) s D ws s.heap [] → lv_has ls mL (lv_args 0 av) →
      W p l e rm s m av.toArray below meth c s.heap [] 0 0 (MQ below (va_Qv post (Bo D ws s.heap.size) (va_A ws s.heap.size)) av.toArray s rm.cells rm.slots (va_A ws s.heap.size)) (F0 m 0 ls [])) : CtV l y b mL ret rm D cA av ws post := by
  intro sz
  refine Met.ofW (cc := b) (maxL := mL) (ret := ret) hy rfl ?_
  intro p e s m args below meth c s₁ B hml hv
  obtain ⟨rfl, hsz, hP, hK, hD0⟩ := hv
  subst hsz
  have hl := lv_entry av (n := mL) hlen
  rw [lg_entry_eq]
  exact body p e s m below meth c _ ⟨B.exec, B.bytes, hml, findClass_of_methodNamed B.named, fun w hw => atoms_spec (ws := Cond.code y b mL ret :: BW) B.pre w (List.mem_cons_of_mem _ hw), hK, B.notSynchronized⟩ (name_of_methodNamed B.named B.method).1 B.returns ⟨hP, hD0.self, va_S.rf, fun q h => Or.inr h⟩ hl
/-! ends -/
theorem r_iret {ws0 : va_W} {post : Int32 → va_W → Prop} {v : Int32} (C : Cx p s m args meth c cc nL own D cA) (h : Hp (va_A ws0 s.heap.size) s D ws H locs) (hr : meth.sig.returnType = some .int) (hp : post v ws) (hd : decode cc pc = .ok (.ireturn, 1)) :
    W p l e R s m args below meth c H locs cells slots (MQ below (va_Qi post (Bo D ws0 s.heap.size) (va_A ws0 s.heap.size)) args s cells slots (va_A ws0 s.heap.size)) (F0 m pc ls [.int v]) :=
  W.iret (v := v) C.1 C.2.1 hr (fun t ht hW => ⟨⟨v, ws, rfl, hp, by rw [ht]; exact h.1, h.2.1⟩, h.2.2.1.F ht⟩) h.2.2.1.2.2 hd C.2.2.2.2.2.2
def bI (b : Bool) : Int32 := if b then 1 else 0
theorem bI_nar (b : Bool) : narrow .boolean (.int (bI b)) = .int (bI b) := by cases b <;> rfl
theorem bI_fit (b : Bool) : fits .boolean (.int (bI b)) = true := by cases b <;> rfl
theorem bI_vp (b : Bool) : vp_nar .boolean (bI b) = bI b := by cases b <;> rfl
theorem bI_t : bI true = 1 := rfl
theorem bI_f : bI false = 0 := rfl
theorem bI_0 {b : Bool} : bI b = 0 ↔ b = false := by cases b <;> decide
theorem bI_n0 {b : Bool} : ¬ bI b = 0 ↔ b = true := by cases b <;> decide
theorem bI_inj {a b : Bool} : bI a = bI b ↔ a = b := by cases a <;> cases b <;> decide
theorem r_zret {ws0 : va_W} {post : Int32 → va_W → Prop} {v : Int32} (b : Bool) (C : Cx p s m args meth c cc nL own D cA) (h : Hp (va_A ws0 s.heap.size) s D ws H locs) (hr : meth.sig.returnType = some .boolean) (hv : v = bI b) (hp : post (bI b) ws) (hd : decode cc pc = .ok (.ireturn, 1)) :
    W p l e R s m args below meth c H locs cells slots (MQ below (va_Qi post (Bo D ws0 s.heap.size) (va_A ws0 s.heap.size)) args s cells slots (va_A ws0 s.heap.size)) (F0 m pc ls [.int v]) := by
  subst hv
  exact W.zret (v := bI b) C.1 C.2.1 hr (bI_nar b) (fun t ht hW => ⟨⟨bI b, ws, rfl, hp, by rw [ht]; exact h.1, h.2.1⟩, h.2.2.1.F ht⟩) h.2.2.1.2.2 hd C.2.2.2.2.2.2
theorem r_vret {ws0 : va_W} {post : va_W → Prop} (C : Cx p s m args meth c cc nL own D cA) (h : Hp (va_A ws0 s.heap.size) s D ws H locs) (hr : meth.sig.returnType = none) (hp : post ws) (hd : decode cc pc = .ok (.return_, 1)) :
    W p l e R s m args below meth c H locs cells slots (MQ below (va_Qv post (Bo D ws0 s.heap.size) (va_A ws0 s.heap.size)) args s cells slots (va_A ws0 s.heap.size)) (F0 m pc ls []) :=
  W.vret C.1 C.2.1 hr (fun t ht hW => ⟨⟨ws, rfl, hp, by rw [ht]; exact h.1, h.2.1⟩, h.2.2.1.F ht⟩) h.2.2.1.2.2 hd C.2.2.2.2.2.2
/-! the top by another name; joins; loops -/
theorem w_i {x : Int32} (z : Int32) (hz : x = z) (k : W p l e R s m args below meth c H locs cells slots Q (F0 m pc ls (.int z :: rest))) : W p l e R s m args below meth c H locs cells slots Q (F0 m pc ls (.int x :: rest)) := by subst hz; exact k
theorem w_l {x : Int64} (z : Int64) (hz : x = z) (k : W p l e R s m args below meth c H locs cells slots Q (F0 m pc ls (.long z :: rest))) : W p l e R s m args below meth c H locs cells slots Q (F0 m pc ls (.long x :: rest)) := by subst hz; exact k
theorem w_join (pc2 : Nat) (rest2 : List Value) (Pv : Int32 → Prop) {st : List Value} (hb : (∀ v, Pv v → W p l e R s m args below meth c H locs cells slots Q (F0 m pc2 ls (.int v :: rest2))) → W p l e R s m args below meth c H locs cells slots Q (F0 m pc ls st))
    (hk : ∀ v, Pv v → W p l e R s m args below meth c H locs cells slots Q (F0 m pc2 ls (.int v :: rest2))) : W p l e R s m args below meth c H locs cells slots Q (F0 m pc ls st) := hb hk
/-- a join of two ways whose heaps may differ -/
theorem w_joinH (pc2 : Nat) (rest2 : List Value) (Ph : Heap → List Loc → Prop) {st : List Value} (hb : (∀ H2 locs2, Ph H2 locs2 → W p l e R s m args below meth c H2 locs2 cells slots Q (F0 m pc2 ls rest2)) → W p l e R s m args below meth c H locs cells slots Q (F0 m pc ls st))
    (hk : ∀ H2 locs2, Ph H2 locs2 → W p l e R s m args below meth c H2 locs2 cells slots Q (F0 m pc2 ls rest2)) : W p l e R s m args below meth c H locs cells slots Q (F0 m pc ls st) := hb hk
theorem w_loop {σ : Type} (pc2 : Nat) (μ : σ → Nat) (I : σ → Heap → List Loc → Array Slot → Prop)
    (hs : ∀ (x : σ) (H : Heap) (locs : List Loc) (ls : Array Slot), I x H locs ls → (∀ (x' : σ) (H' : Heap) (locs' : List Loc) (ls' : Array Slot), I x' H' locs' ls' → μ x' < μ x → W p l e R s m args below meth c H' locs' cells slots Q (F0 m pc2 ls' [])) → W p l e R s m args below meth c H locs cells slots Q (F0 m pc2 ls []))
    (x : σ) (hI : I x H locs ls) : W p l e R s m args below meth c H locs cells slots Q (F0 m pc2 ls []) := by
  have key : ∀ (n : Nat) (x : σ) (H : Heap) (locs : List Loc) (ls : Array Slot), μ x < n → I x H locs ls → W p l e R s m args below meth c H locs cells slots Q (F0 m pc2 ls []) := by
    intro n
    induction n with
    | zero => intro x H locs ls h; exact absurd h (Nat.not_lt_zero _)
    | succ n ih => intro x H locs ls h hI; exact hs x H locs ls hI (fun x' H' locs' ls' hI' hlt => ih x' H' locs' ls' (by omega) hI')
  exact key (μ x + 1) x H locs ls (Nat.lt_succ_self _) hI
/-! fields -/
theorem r_get {idx ci k : Nat} {q : vw_C} {ty : Nat → FieldType} (C : Cx p s m args meth c cc nL own D cA) (h : Hp A s D ws H locs) (F : Fld own idx ci k q ty) (q0 : Nat) {fs : List Value} (he : ws[q0]? = some (a, .inr (ci, fs))) {v : Value} (hv : fs[k]? = some v) (hd : decode cc pc = .ok (.getfield idx, 3))
    (kk : W p l e R s m args below meth c H locs cells slots Q (F0 m (pc + 3) ls (v :: rest))) : W p l e R s m args below meth c H locs cells slots Q (F0 m pc ls (.ref a :: rest)) :=
  va_get (own := own) (ref := q.1) (C := q.1) (T := q.2.1) (N := q.2.2) (ci := ci) C.1 C.2.1 C.2.2.2.2.1 F.2.2.2.2.1 C.2.2.2.1 C.2.2.2.2.2.1.1 h.1 q0 he F.1 k F.2.1 (C.2.2.2.2.1 _ F.2.2.1) (fun x hx => by rw [F.2.2.2.1] at hx; exact hx) hv hd kk
theorem r_getN {idx ci k : Nat} {q : vw_C} (C : Cx p s m args meth c cc nL own D cA) (h : Hp A s D ws H locs) (hn : va_Nw (.fieldLinkNest own idx q.1 (q.2.1 k).2.1 (q.2.1 k).2.2.1 R_PF) s) (hc : classes[ci]? = some q) (hk : k < q.2.2) (hs : (q.2.1 k).1 = q.1) (hin : ∀ w ∈ u_ws q.1 q.2.1 q.2.2, w ∈ BW) (q0 : Nat) {fs : List Value} (he : ws[q0]? = some (a, .inr (ci, fs))) {v : Value} (hv : fs[k]? = some v) (hd : decode cc pc = .ok (.getfield idx, 3))
    (kk : W p l e R s m args below meth c H locs cells slots Q (F0 m (pc + 3) ls (v :: rest))) : W p l e R s m args below meth c H locs cells slots Q (F0 m pc ls (.ref a :: rest)) :=
  va_getN (own := own) (ref := q.1) (C := q.1) (T := q.2.1) (N := q.2.2) (ci := ci) (host := R_PF) C.1 C.2.1 C.2.2.2.2.1 hin C.2.2.2.1 C.2.2.2.2.2.1.1 h.1 q0 he hc k hk (va_Nw.use rfl hn) (fun x hx => by rw [hs] at hx; exact hx) hv hd kk
theorem r_put {idx ci k : Nat} {q : vw_C} {ty : Nat → FieldType} (C : Cx p s m args meth c cc nL own D cA) (h : Hp A s D ws H locs) (F : Fld own idx ci k q ty) (q0 : Nat) {fs : List Value} (he : ws[q0]? = some (a, .inr (ci, fs))) (hfin : (q.2.1 k).2.2.2 = false) {v : Value} (hn : narrow (ty k) v = v) (hfit : fits (ty k) v = true) (hl : k < fs.length) {ws' : va_W} (hw : ws.set q0 (a, .inr (ci, fs.set k v)) = ws') (hd : decode cc pc = .ok (.putfield idx, 3))
    (kk : ∀ (H1 : Heap) (locs1 : List Loc), Hp A s D ws' H1 locs1 → W p l e R s m args below meth c H1 locs1 cells slots Q (F0 m (pc + 3) ls rest)) : W p l e R s m args below meth c H locs cells slots Q (F0 m pc ls (v :: .ref a :: rest)) := by
  subst hw
  exact va_put (own := own) (ref := q.1) (C := q.1) (T := q.2.1) (N := q.2.2) (ci := ci) (ty := ty k) C.1 C.2.1 C.2.2.2.2.1 F.2.2.2.2.1 ty F.2.2.2.2.2.1 F.2.2.2.2.2.2 C.2.2.2.1 C.2.2.2.2.2.1.1 h.1 h.2.1 h.2.2.1 q0 he F.1 k F.2.1 (C.2.2.2.2.1 _ F.2.2.1) (fun x hx => by rw [F.2.2.2.1] at hx; exact hx) hfin (F.2.2.2.2.2.1 k F.2.1) hn hfit hl hd (fun H1 locs1 a1 a2 a3 => kk H1 locs1 ⟨a1, a2, a3, h.2.2.2⟩)
theorem r_putF {idx ci k : Nat} {q : vw_C} {ty : Nat → FieldType} (C : Cx p s m args meth c cc nL own D cA) (h : Hp A s D ws H locs) (F : Fld own idx ci k q ty) (q0 : Nat) {fs : List Value} (he : ws[q0]? = some (a, .inr (ci, fs))) (hfin : (q.2.1 k).2.2.2 = true) (hin2 : meth.name = "<init>") (hdecl : q.1 = own) {v : Value} (hn : narrow (ty k) v = v) (hfit : fits (ty k) v = true) (hl : k < fs.length) {ws' : va_W} (hw : ws.set q0 (a, .inr (ci, fs.set k v)) = ws') (hd : decode cc pc = .ok (.putfield idx, 3))
    (kk : ∀ (H1 : Heap) (locs1 : List Loc), Hp A s D ws' H1 locs1 → W p l e R s m args below meth c H1 locs1 cells slots Q (F0 m (pc + 3) ls rest)) : W p l e R s m args below meth c H locs cells slots Q (F0 m pc ls (v :: .ref a :: rest)) := by
  subst hw
  exact va_putF (own := own) (ref := q.1) (C := q.1) (T := q.2.1) (N := q.2.2) (ci := ci) (ty := ty k) C.1 C.2.1 C.2.2.2.2.1 F.2.2.2.2.1 ty F.2.2.2.2.2.1 F.2.2.2.2.2.2 C.2.2.2.1 C.2.2.2.2.2.1.1 h.1 h.2.1 h.2.2.1 q0 he F.1 k F.2.1 (C.2.2.2.2.1 _ F.2.2.1) (fun x hx => by rw [F.2.2.2.1] at hx; exact hx) hfin hin2 (F.2.2.2.1.trans hdecl) (F.2.2.2.2.2.1 k F.2.1) hn hfit hl hd (fun H1 locs1 a1 a2 a3 => kk H1 locs1 ⟨a1, a2, a3, h.2.2.2⟩)
/-! arrays, at a number j -/
theorem r_iald (C : Cx p s m args meth c cc nL own D cA) (h : Hp A s D ws H locs) (q0 : Nat) {n : Nat} {f : Nat → Int32} (he : ws[q0]? = some (a, .inl (cA 0, n, .inl f))) {i : Int32} (j : Nat) (hj : j < n) (hi : i = nI j) (hn : n < 2 ^ 31) {v : Int32} (hv : f j = v) (hd : decode cc pc = .ok (.iaload, 1))
    (kk : W p l e R s m args below meth c H locs cells slots Q (F0 m (pc + 1) ls (.int v :: rest))) : W p l e R s m args below meth c H locs cells slots Q (F0 m pc ls (.int i :: .ref a :: rest)) := by
  subst hi
  refine va_iald C.1 C.2.1 C.2.2.2.2.2.1.1 h.1 q0 0 he rfl (vp_in_nI hj hn) hd ?_
  rw [nI_clamp (Nat.lt_trans hj hn), hv]; exact kk
theorem r_zald (C : Cx p s m args meth c cc nL own D cA) (h : Hp A s D ws H locs) (q0 : Nat) {n : Nat} {f : Nat → Int32} (he : ws[q0]? = some (a, .inl (cA 1, n, .inl f))) {i : Int32} (j : Nat) (hj : j < n) (hi : i = nI j) (hn : n < 2 ^ 31) {v : Int32} (hv : f j = v) (hd : decode cc pc = .ok (.baload, 1))
    (kk : W p l e R s m args below meth c H locs cells slots Q (F0 m (pc + 1) ls (.int v :: rest))) : W p l e R s m args below meth c H locs cells slots Q (F0 m pc ls (.int i :: .ref a :: rest)) := by
  subst hi
  refine va_zald C.1 C.2.1 C.2.2.2.2.2.1.1 h.1 q0 1 he rfl (vp_in_nI hj hn) hd ?_
  rw [nI_clamp (Nat.lt_trans hj hn), hv]; exact kk
theorem r_bald (C : Cx p s m args meth c cc nL own D cA) (h : Hp A s D ws H locs) (q0 : Nat) {n : Nat} {f : Nat → Int32} (he : ws[q0]? = some (a, .inl (cA 2, n, .inl f))) {i : Int32} (j : Nat) (hj : j < n) (hi : i = nI j) (hn : n < 2 ^ 31) {v : Int32} (hv : f j = v) (hd : decode cc pc = .ok (.baload, 1))
    (kk : W p l e R s m args below meth c H locs cells slots Q (F0 m (pc + 1) ls (.int v :: rest))) : W p l e R s m args below meth c H locs cells slots Q (F0 m pc ls (.int i :: .ref a :: rest)) := by
  subst hi
  refine va_bald C.1 C.2.1 C.2.2.2.2.2.1.1 h.1 q0 2 he rfl (vp_in_nI hj hn) hd ?_
  rw [nI_clamp (Nat.lt_trans hj hn), hv]; exact kk
theorem r_lald (C : Cx p s m args meth c cc nL own D cA) (h : Hp A s D ws H locs) (q0 : Nat) {n : Nat} {f : Nat → Int64} (he : ws[q0]? = some (a, .inl (cA 3, n, .inr (.inl f)))) {i : Int32} (j : Nat) (hj : j < n) (hi : i = nI j) (hn : n < 2 ^ 31) {v : Int64} (hv : f j = v) (hd : decode cc pc = .ok (.laload, 1))
    (kk : W p l e R s m args below meth c H locs cells slots Q (F0 m (pc + 1) ls (.long v :: rest))) : W p l e R s m args below meth c H locs cells slots Q (F0 m pc ls (.int i :: .ref a :: rest)) := by
  subst hi
  refine va_lald C.1 C.2.1 C.2.2.2.2.2.1.1 h.1 q0 3 he rfl (vp_in_nI hj hn) hd ?_
  rw [nI_clamp (Nat.lt_trans hj hn), hv]; exact kk
theorem r_qald (C : Cx p s m args meth c cc nL own D cA) (h : Hp A s D ws H locs) (q0 : Nat) {n : Nat} {f : Nat → Option Nat} (he : ws[q0]? = some (a, .inl (cA 4, n, .inr (.inr (.inr (.inr f)))))) {i : Int32} (j : Nat) (hj : j < n) (hi : i = nI j) (hn : n < 2 ^ 31) {v : Nat} (hv : f j = some v) (hd : decode cc pc = .ok (.aaload, 1))
    (kk : W p l e R s m args below meth c H locs cells slots Q (F0 m (pc + 1) ls (.ref v :: rest))) : W p l e R s m args below meth c H locs cells slots Q (F0 m pc ls (.int i :: .ref a :: rest)) := by
  subst hi
  refine va_aldq C.1 C.2.1 C.2.2.2.2.2.1.1 h.1 q0 4 he rfl (vp_in_nI hj hn) hd ?_
  rw [nI_clamp (Nat.lt_trans hj hn), hv]; exact kk
theorem r_iast (C : Cx p s m args meth c cc nL own D cA) (h : Hp A s D ws H locs) (q0 : Nat) {n : Nat} {f : Nat → Int32} (he : ws[q0]? = some (a, .inl (cA 0, n, .inl f))) {i x : Int32} (j : Nat) (hj : j < n) (hi : i = nI j) (hn : n < 2 ^ 31) {g : Nat → Int32} (hg : upd f j x = g) {ws' : va_W} (hw : ws.set q0 (a, .inl (cA 0, n, .inl g)) = ws') (hd : decode cc pc = .ok (.iastore, 1))
    (kk : ∀ (H1 : Heap) (locs1 : List Loc), Hp A s D ws' H1 locs1 → W p l e R s m args below meth c H1 locs1 cells slots Q (F0 m (pc + 1) ls rest)) : W p l e R s m args below meth c H locs cells slots Q (F0 m pc ls (.int x :: .int i :: .ref a :: rest)) := by
  subst hi; subst hw; subst hg
  refine va_iast C.1 C.2.1 C.2.2.2.2.2.1.1 h.1 h.2.1 h.2.2.1 q0 0 he rfl (vp_in_nI hj hn) hd (fun H1 locs1 a1 a2 a3 => ?_)
  rw [nI_clamp (Nat.lt_trans hj hn)] at a1 a2
  exact kk H1 locs1 ⟨a1, a2, a3, h.2.2.2⟩
theorem r_zast (C : Cx p s m args meth c cc nL own D cA) (h : Hp A s D ws H locs) (q0 : Nat) {n : Nat} {f : Nat → Int32} (he : ws[q0]? = some (a, .inl (cA 1, n, .inl f))) {i x : Int32} (j : Nat) (hj : j < n) (hi : i = nI j) (hn : n < 2 ^ 31) {g : Nat → Int32} (hg : upd f j (vp_nar .boolean x) = g) {ws' : va_W} (hw : ws.set q0 (a, .inl (cA 1, n, .inl g)) = ws') (hd : decode cc pc = .ok (.bastore, 1))
    (kk : ∀ (H1 : Heap) (locs1 : List Loc), Hp A s D ws' H1 locs1 → W p l e R s m args below meth c H1 locs1 cells slots Q (F0 m (pc + 1) ls rest)) : W p l e R s m args below meth c H locs cells slots Q (F0 m pc ls (.int x :: .int i :: .ref a :: rest)) := by
  subst hi; subst hw; subst hg
  refine va_zast C.1 C.2.1 C.2.2.2.2.2.1.1 h.1 h.2.1 h.2.2.1 q0 1 he rfl (vp_in_nI hj hn) hd (fun H1 locs1 a1 a2 a3 => ?_)
  rw [nI_clamp (Nat.lt_trans hj hn)] at a1 a2
  exact kk H1 locs1 ⟨a1, a2, a3, h.2.2.2⟩
theorem r_bast (C : Cx p s m args meth c cc nL own D cA) (h : Hp A s D ws H locs) (q0 : Nat) {n : Nat} {f : Nat → Int32} (he : ws[q0]? = some (a, .inl (cA 2, n, .inl f))) {i x : Int32} (j : Nat) (hj : j < n) (hi : i = nI j) (hn : n < 2 ^ 31) {g : Nat → Int32} (hg : upd f j (vp_nar .byte x) = g) {ws' : va_W} (hw : ws.set q0 (a, .inl (cA 2, n, .inl g)) = ws') (hd : decode cc pc = .ok (.bastore, 1))
    (kk : ∀ (H1 : Heap) (locs1 : List Loc), Hp A s D ws' H1 locs1 → W p l e R s m args below meth c H1 locs1 cells slots Q (F0 m (pc + 1) ls rest)) : W p l e R s m args below meth c H locs cells slots Q (F0 m pc ls (.int x :: .int i :: .ref a :: rest)) := by
  subst hi; subst hw; subst hg
  refine va_bast C.1 C.2.1 C.2.2.2.2.2.1.1 h.1 h.2.1 h.2.2.1 q0 2 he rfl (vp_in_nI hj hn) hd (fun H1 locs1 a1 a2 a3 => ?_)
  rw [nI_clamp (Nat.lt_trans hj hn)] at a1 a2
  exact kk H1 locs1 ⟨a1, a2, a3, h.2.2.2⟩
theorem r_last (C : Cx p s m args meth c cc nL own D cA) (h : Hp A s D ws H locs) (q0 : Nat) {n : Nat} {f : Nat → Int64} (he : ws[q0]? = some (a, .inl (cA 3, n, .inr (.inl f)))) {i : Int32} {x : Int64} (j : Nat) (hj : j < n) (hi : i = nI j) (hn : n < 2 ^ 31) {g : Nat → Int64} (hg : vp_updL f j x = g) {ws' : va_W} (hw : ws.set q0 (a, .inl (cA 3, n, .inr (.inl g))) = ws') (hd : decode cc pc = .ok (.lastore, 1))
    (kk : ∀ (H1 : Heap) (locs1 : List Loc), Hp A s D ws' H1 locs1 → W p l e R s m args below meth c H1 locs1 cells slots Q (F0 m (pc + 1) ls rest)) : W p l e R s m args below meth c H locs cells slots Q (F0 m pc ls (.long x :: .int i :: .ref a :: rest)) := by
  subst hi; subst hw; subst hg
  refine va_last C.1 C.2.1 C.2.2.2.2.2.1.1 h.1 h.2.1 h.2.2.1 q0 3 he rfl (vp_in_nI hj hn) hd (fun H1 locs1 a1 a2 a3 => ?_)
  rw [nI_clamp (Nat.lt_trans hj hn)] at a1 a2
  exact kk H1 locs1 ⟨a1, a2, a3, h.2.2.2⟩
/-! calls: the callee has the whole world -/
theorem Hp.free {A : Nat → Prop} (h : Hp A s D ws H locs) : ∀ q, va_A ws H.size q → A q := by
  intro q hq
  rcases hq with ⟨k, e, hk⟩ | hq
  · exact h.2.1.2 k (q, e) hk
  · exact h.2.2.2 q (Nat.le_trans h.2.2.1.1 hq)
theorem r_calli {idx ci mL n : Nat} {Cn : String} {y : MethodName} {b : ByteArray} {ret : Option FieldType} {rm : Room} {o : Nat} {As : List Value} {post : Int32 → va_W → Prop} {q : vw_C} {st : List Value} (C : Cx p s m args meth c cc nL own D cA) (h : Hp A s D ws H locs) (cv : Cvd own idx Cn y b mL ret n) (ct : CtI l y b mL ret rm D cA (.ref o :: As) ws post)
    (q0 : Nat) {fs : List Value} (he : ws[q0]? = some (o, .inr (ci, fs))) (hc : classes[ci]? = some q) (hq : q.1 = Cn) (hn : As.length = n) (hls : ls.size = nL) (hst : st = As.reverse ++ .ref o :: rest) (hroom : (rest.map fun v => v.category).sum ≤ 8) (hrc : rm.cells = 0) (hrs : rm.slots = 0) (hR : rm.frames + 1 ≤ R.frames ∧ 8 + (mL + 11) + rm.locals ≤ R.locals) (hcs : cells ≤ R.cells ∧ slots ≤ R.slots) (hd : decode cc pc = .ok (.invokevirtual idx, 3))
    (kk : ∀ (r : Int32) (u : va_W) (H1 : Heap) (locs1 : List Loc), post r u → Hp A s D u H1 locs1 → W p l e R s m args below meth c H1 locs1 cells slots Q (F0 m (pc + 3) ls (.int r :: rest))) : W p l e R s m args below meth c H locs cells slots Q (F0 m pc ls st) := by
  subst hst
  subst hq
  have ct' := ct H.size
  rw [hrc, hrs] at ct'
  have hrec := va_recv C.2.2.2.2.2.1.1 h.1 hc he
  refine va_calli (va_runV (As := As) (rest := rest) ⟨C.1, C.2.1, C.2.2.1, C.2.2.2.1, C.2.2.2.2.1⟩ ct' (cwV n C.2.2.2.2.1 cv.1 rfl hrc hrs cv.2 hR) ⟨Pc0.blind, hrec, fun U hU hW => ⟨rfl, by rw [hU], by rw [hU]; exact h.1, Kx.warm hW C.2.2.2.2.2.1, h.2.1.weaken (fun _ _ _ _ => trivial)⟩⟩ rfl hn hls rfl (lv_room hroom) hd ⟨hcs.1, hcs.2⟩) h.2.2.1 (fun q _ h9 => h.free q h9) h.free (fun r u t H1 locs1 ht hvm hw hB hz1 hk1 hS => ?_)
  exact kk r u H1 locs1 hw ⟨ht ▸ hB.1, hB.2.weaken (fun _ q _ h9 => h.free q.1 h9), hS, h.2.2.2⟩
theorem r_callv {idx ci mL n : Nat} {Cn : String} {y : MethodName} {b : ByteArray} {ret : Option FieldType} {rm : Room} {o : Nat} {As : List Value} {post : va_W → Prop} {q : vw_C} {st : List Value} (C : Cx p s m args meth c cc nL own D cA) (h : Hp A s D ws H locs) (cv : Cvd own idx Cn y b mL ret n) (ct : CtV l y b mL ret rm D cA (.ref o :: As) ws post)
    (q0 : Nat) {fs : List Value} (he : ws[q0]? = some (o, .inr (ci, fs))) (hc : classes[ci]? = some q) (hq : q.1 = Cn) (hn : As.length = n) (hls : ls.size = nL) (hst : st = As.reverse ++ .ref o :: rest) (hroom : (rest.map fun v => v.category).sum ≤ 8) (hrc : rm.cells = 0) (hrs : rm.slots = 0) (hR : rm.frames + 1 ≤ R.frames ∧ 8 + (mL + 11) + rm.locals ≤ R.locals) (hcs : cells ≤ R.cells ∧ slots ≤ R.slots) (hd : decode cc pc = .ok (.invokevirtual idx, 3))
    (kk : ∀ (u : va_W) (H1 : Heap) (locs1 : List Loc), post u → Hp A s D u H1 locs1 → W p l e R s m args below meth c H1 locs1 cells slots Q (F0 m (pc + 3) ls rest)) : W p l e R s m args below meth c H locs cells slots Q (F0 m pc ls st) := by
  subst hst
  subst hq
  have ct' := ct H.size
  rw [hrc, hrs] at ct'
  have hrec := va_recv C.2.2.2.2.2.1.1 h.1 hc he
  refine va_callv (va_runV (As := As) (rest := rest) ⟨C.1, C.2.1, C.2.2.1, C.2.2.2.1, C.2.2.2.2.1⟩ ct' (cwV n C.2.2.2.2.1 cv.1 rfl hrc hrs cv.2 hR) ⟨Pc0.blind, hrec, fun U hU hW => ⟨rfl, by rw [hU], by rw [hU]; exact h.1, Kx.warm hW C.2.2.2.2.2.1, h.2.1.weaken (fun _ _ _ _ => trivial)⟩⟩ rfl hn hls rfl (lv_room hroom) hd ⟨hcs.1, hcs.2⟩) h.2.2.1 (fun q _ h9 => h.free q h9) h.free (fun u t H1 locs1 ht hvm hw hB hz1 hk1 hS => ?_)
  exact kk u H1 locs1 hw ⟨ht ▸ hB.1, hB.2.weaken (fun _ q _ h9 => h.free q.1 h9), hS, h.2.2.2⟩
end RW
end
section
/-! Sets of bits as words of 64 (pure) -/
def bvF (f : Nat → Bool) : (n : Nat) → BitVec n
  | 0 => 0#0
  | n + 1 => BitVec.cons (f n) (bvF f n)
theorem bvF_get (f : Nat → Bool) : ∀ n i, (bvF f n).getLsbD i = (decide (i < n) && f i)
  | 0, i => by simp [bvF]
  | n + 1, i => by
    rw [bvF, BitVec.getLsbD_cons, bvF_get f n i]
    by_cases h : i = n
    · subst h; simp
    · by_cases h2 : i < n
      · have h3 : i < n + 1 := by omega
        simp [h, h2, h3]
      · have h3 : ¬ i < n + 1 := by omega
        simp [h, h2, h3]
def wd (S : Nat → Bool) : Nat → Int64 := fun w => Int64.ofBitVec (bvF (fun i => S (64 * w + i)) 64)
theorem wd_get (S : Nat → Bool) (w : Nat) {i : Nat} (hi : i < 64) : (wd S w).toBitVec.getLsbD i = S (64 * w + i) := by
  show (bvF (fun i => S (64 * w + i)) 64).getLsbD i = _
  rw [bvF_get]; simp [hi]
theorem wd_ext {x : Int64} {S : Nat → Bool} {w : Nat} (h : ∀ i, i < 64 → x.toBitVec.getLsbD i = S (64 * w + i)) : x = wd S w := by
  apply Int64.toBitVec_inj.mp
  apply BitVec.eq_of_getLsbD_eq
  intro i hi
  rw [h i hi, wd_get S w hi]
theorem sh1 : ∀ j, j < 64 → ((1 : Int64) <<< ((nI j).toInt64 &&& 63)).toBitVec = BitVec.twoPow 64 j := by decide +kernel
theorem m1b : (-1 : Int64).toBitVec = BitVec.allOnes 64 := by decide
theorem up_get {S : Nat → Bool} {k : Nat} {b : Bool} (j : Nat) : va_up S k b j = if j = k then b else S j := rfl
theorem wd_set (S : Nat → Bool) (k : Nat) : vp_updL (wd S) (k / 64) (wd S (k / 64) ||| ((1 : Int64) <<< ((nI (k % 64)).toInt64 &&& 63))) = wd (va_up S k true) := by
  have hk : k % 64 < 64 := Nat.mod_lt _ (by decide)
  have hd := Nat.div_add_mod k 64
  funext w
  unfold vp_updL
  split
  · next e =>
    subst e
    refine wd_ext (fun i hi => ?_)
    rw [Int64.toBitVec_or, BitVec.getLsbD_or, sh1 _ hk, BitVec.getLsbD_twoPow, wd_get S _ hi, up_get]
    by_cases h : k % 64 = i
    · rw [if_pos (by omega)]; simp [h, hi]
    · rw [if_neg (by omega)]; simp [h]
  · next e =>
    refine wd_ext (fun i hi => ?_)
    rw [wd_get S _ hi, up_get, if_neg (by omega)]
theorem wd_clr (S : Nat → Bool) (k : Nat) : vp_updL (wd S) (k / 64) (wd S (k / 64) &&& (((1 : Int64) <<< ((nI (k % 64)).toInt64 &&& 63)) ^^^ (-1))) = wd (va_up S k false) := by
  have hk : k % 64 < 64 := Nat.mod_lt _ (by decide)
  have hd := Nat.div_add_mod k 64
  funext w
  unfold vp_updL
  split
  · next e =>
    subst e
    refine wd_ext (fun i hi => ?_)
    rw [Int64.toBitVec_and, BitVec.getLsbD_and, Int64.toBitVec_xor, BitVec.getLsbD_xor, sh1 _ hk, m1b, BitVec.getLsbD_allOnes, BitVec.getLsbD_twoPow, wd_get S _ hi, up_get]
    by_cases h : k % 64 = i
    · rw [if_pos (by omega)]; simp [h, hi]
    · rw [if_neg (by omega)]; simp [h, hi]
  · next e =>
    refine wd_ext (fun i hi => ?_)
    rw [wd_get S _ hi, up_get, if_neg (by omega)]
theorem sh2 : ∀ j, j < 64 → (((nI j).toInt64 &&& 63).toBitVec.smod 64).toNat = j := by decide +kernel
theorem lb : ∀ b : Bool, (lN (if b then 1 else 0)).toBitVec = if b then 1#64 else 0#64 := by decide +kernel
theorem wd_bit (S : Nat → Bool) (k : Nat) : (wd S (k / 64) >>> ((nI (k % 64)).toInt64 &&& 63)) &&& 1 = lN (if S k then 1 else 0) := by
  have hk : k % 64 < 64 := Nat.mod_lt _ (by decide)
  have hd := Nat.div_add_mod k 64
  apply Int64.toBitVec_inj.mp
  rw [lb]
  apply BitVec.eq_of_getLsbD_eq
  intro i hi
  rw [Int64.toBitVec_and, BitVec.getLsbD_and, Int64.toBitVec_shiftRight]
  show (((wd S (k / 64)).toBitVec.sshiftRight (((nI (k % 64)).toInt64 &&& 63).toBitVec.smod 64).toNat).getLsbD i && (1#64).getLsbD i) = _
  rw [sh2 _ hk, BitVec.getLsbD_sshiftRight, BitVec.getLsbD_one]
  by_cases h0 : i = 0
  · subst h0
    have h1 : k % 64 + 0 < 64 := by omega
    have e1 : 64 * (k / 64) + k % 64 = k := by omega
    have e2 := wd_get S (k / 64) hk
    rw [e1] at e2
    rw [Nat.add_zero, if_pos hk, e2]
    cases S k <;> simp
  · cases S k <;> simp [h0]
def clrS (S : Nat → Bool) : Nat → Bool := fun k => if k < 192 then false else S k
def copS (S T : Nat → Bool) : Nat → Bool := fun k => if k < 192 then T k else S k
def addS (S T : Nat → Bool) : Nat → Bool := fun k => if k < 192 then (S k || T k) else S k
def setS (S : Nat → Bool) (f n : Nat) (b : Bool) : Nat → Bool := fun k => if f ≤ k ∧ k < f + n then b else S k
def clrI (S : Nat → Bool) (i : Nat) : Nat → Bool := fun k => if k < 64 * i then false else S k
def copI (S T : Nat → Bool) (i : Nat) : Nat → Bool := fun k => if k < 64 * i then T k else S k
def addI (S T : Nat → Bool) (i : Nat) : Nat → Bool := fun k => if k < 64 * i then (S k || T k) else S k
theorem clrI_0 (S : Nat → Bool) : clrI S 0 = S := by funext k; simp [clrI]
theorem copI_0 (S T : Nat → Bool) : copI S T 0 = S := by funext k; simp [copI]
theorem addI_0 (S T : Nat → Bool) : addI S T 0 = S := by funext k; simp [addI]
theorem clrI_3 (S : Nat → Bool) : clrI S 3 = clrS S := rfl
theorem copI_3 (S T : Nat → Bool) : copI S T 3 = copS S T := rfl
theorem addI_3 (S T : Nat → Bool) : addI S T 3 = addS S T := rfl
theorem wd_0 (w : Nat) : (0 : Int64) = wd (fun _ => false) w := wd_ext (fun i hi => by show (0#64).getLsbD i = false; simp)
theorem clrI_s (S : Nat → Bool) (i : Nat) : vp_updL (wd (clrI S i)) i 0 = wd (clrI S (i + 1)) := by
  funext w
  unfold vp_updL
  split
  · next e =>
    subst e
    refine wd_ext (fun j hj => ?_)
    show (0#64).getLsbD j = _
    unfold clrI; rw [if_pos (by omega)]; simp
  · next e =>
    refine wd_ext (fun j hj => ?_)
    rw [wd_get _ _ hj]
    unfold clrI
    by_cases h : 64 * w + j < 64 * i
    · rw [if_pos h, if_pos (by omega)]
    · rw [if_neg h, if_neg (by omega)]
theorem copI_s (S T : Nat → Bool) (i : Nat) : vp_updL (wd (copI S T i)) i (wd T i) = wd (copI S T (i + 1)) := by
  funext w
  unfold vp_updL
  split
  · next e =>
    subst e
    refine wd_ext (fun j hj => ?_)
    rw [wd_get _ _ hj]
    unfold copI; rw [if_pos (by omega)]
  · next e =>
    refine wd_ext (fun j hj => ?_)
    rw [wd_get _ _ hj]
    unfold copI
    by_cases h : 64 * w + j < 64 * i
    · rw [if_pos h, if_pos (by omega)]
    · rw [if_neg h, if_neg (by omega)]
theorem addI_s (S T : Nat → Bool) (i : Nat) : vp_updL (wd (addI S T i)) i (wd (addI S T i) i ||| wd T i) = wd (addI S T (i + 1)) := by
  funext w
  unfold vp_updL
  split
  · next e =>
    subst e
    refine wd_ext (fun j hj => ?_)
    rw [Int64.toBitVec_or, BitVec.getLsbD_or, wd_get _ _ hj, wd_get _ _ hj]
    unfold addI; rw [if_neg (by omega), if_pos (by omega)]
  · next e =>
    refine wd_ext (fun j hj => ?_)
    rw [wd_get _ _ hj]
    unfold addI
    by_cases h : 64 * w + j < 64 * i
    · rw [if_pos h, if_pos (by omega)]
    · rw [if_neg h, if_neg (by omega)]
theorem addI_m (S T : Nat → Bool) (i : Nat) : (wd T i &&& (wd (addI S T i) i ^^^ (-1))) = 0 ↔ ¬ ∃ j, j < 64 ∧ T (64 * i + j) = true ∧ S (64 * i + j) = false := by
  rw [← Int64.toBitVec_inj, Int64.toBitVec_and, Int64.toBitVec_xor, m1b]
  have key : ∀ j, j < 64 → ((wd T i).toBitVec &&& ((wd (addI S T i) i).toBitVec ^^^ BitVec.allOnes 64)).getLsbD j = (T (64 * i + j) && !S (64 * i + j)) := by
    intro j hj
    rw [BitVec.getLsbD_and, BitVec.getLsbD_xor, BitVec.getLsbD_allOnes, wd_get _ _ hj, wd_get _ _ hj]
    unfold addI; rw [if_neg (by omega)]; simp [hj]
  constructor
  · rintro h ⟨j, hj, h1, h2⟩
    have k := key j hj
    rw [h, h1, h2] at k
    have z : (0 : Int64).toBitVec.getLsbD j = false := by show (0#64).getLsbD j = false; simp
    rw [z] at k
    exact absurd k (by decide)
  · intro h
    apply BitVec.eq_of_getLsbD_eq
    intro j hj
    rw [key j hj]
    have z : (0 : Int64).toBitVec.getLsbD j = false := by show (0#64).getLsbD j = false; simp
    rw [z]
    by_cases h1 : T (64 * i + j) = true
    · by_cases h2 : S (64 * i + j) = false
      · exact absurd ⟨j, hj, h1, h2⟩ h
      · simp at h2; simp [h1, h2]
    · simp at h1; simp [h1]
theorem lg_0 {x y : Int64} : lg_cmp x y = 0 ↔ x = y := by
  unfold lg_cmp
  by_cases h : x > y
  · rw [if_pos h]
    constructor
    · intro q; exact absurd q (by decide)
    · intro q; subst q; exact absurd h (by simp)
  · rw [if_neg h]
    by_cases h2 : x = y
    · simp [h2]
    · rw [if_neg h2]
      constructor
      · intro q; exact absurd q (by decide)
      · intro q; exact absurd q h2
theorem setS_0 (S : Nat → Bool) (f : Nat) (b : Bool) : setS S f 0 b = S := by funext k; unfold setS; rw [if_neg (by omega)]
theorem setS_s (S : Nat → Bool) (f n : Nat) (b : Bool) : va_up (setS S f n b) (f + n) b = setS S f (n + 1) b := by
  funext k
  unfold va_up setS
  by_cases h : k = f + n
  · rw [if_pos h, if_pos (by omega)]
  · rw [if_neg h]
    by_cases h2 : f ≤ k ∧ k < f + n
    · rw [if_pos h2, if_pos (by omega)]
    · rw [if_neg h2, if_neg (by omega)]
/-- the bits of f below n, as an int -/
def orB (f : Nat → Bool) : Nat → Int32
  | 0 => 0
  | n + 1 => orB f n ||| (if f n then (1 : Int32) <<< (nI n &&& 31) else 0)
theorem orB_congr {f g : Nat → Bool} : ∀ n, (∀ k, k < n → f k = g k) → orB f n = orB g n
  | 0, _ => rfl
  | n + 1, h => by rw [orB, orB, orB_congr n (fun k hk => h k (by omega)), h n (by omega)]
def bt (x : Int32) (i : Nat) : Bool := x.toBitVec.getLsbD i
theorem b_ext {x y : Int32} (h : ∀ i, i < 32 → bt x i = bt y i) : x = y := Int32.toBitVec_inj.mp (BitVec.eq_of_getLsbD_eq (fun i hi => h i hi))
theorem b_or (x y : Int32) (i : Nat) : bt (x ||| y) i = (bt x i || bt y i) := by unfold bt; rw [Int32.toBitVec_or, BitVec.getLsbD_or]
theorem b_and (x y : Int32) (i : Nat) : bt (x &&& y) i = (bt x i && bt y i) := by unfold bt; rw [Int32.toBitVec_and, BitVec.getLsbD_and]
theorem b_0 (i : Nat) : bt 0 i = false := by show (0#32).getLsbD i = false; simp
theorem b_one : ∀ n, n < 8 → ∀ i, i < 32 → bt ((1 : Int32) <<< (nI n &&& 31)) i = decide (i = n) := by decide +kernel
theorem orB_bt {f : Nat → Bool} : ∀ {n : Nat}, n ≤ 8 → ∀ i, i < 32 → bt (orB f n) i = (decide (i < n) && f i)
  | 0, _, i, _ => by rw [orB, b_0]; simp
  | n + 1, hn, i, hi => by
    rw [orB, b_or, orB_bt (by omega) i hi]
    have h1 : bt (if f n then (1 : Int32) <<< (nI n &&& 31) else 0) i = (f n && decide (i = n)) := by
      by_cases h : f n = true
      · rw [if_pos h, b_one n (by omega) i hi, h]; simp
      · rw [if_neg h, b_0]; simp at h; simp [h]
    rw [h1]
    by_cases h : i = n
    · subst h; simp
    · by_cases h2 : i < n
      · have h3 : i < n + 1 := by omega
        simp [h, h2, h3]
      · have h3 : ¬ i < n + 1 := by omega
        simp [h, h2, h3]
theorem orB_ne {f : Nat → Bool} {n : Nat} (hn : n ≤ 8) : ¬ orB f n = 0 ↔ ∃ k, k < n ∧ f k = true := by
  constructor
  · intro h
    apply Classical.byContradiction
    intro q
    apply h
    apply b_ext
    intro i hi
    rw [orB_bt hn i hi, b_0]
    by_cases h2 : i < n
    · have : ¬ f i = true := fun z => q ⟨i, h2, z⟩
      simp at this; simp [this]
    · simp [h2]
  · rintro ⟨k, hk, hf⟩ h
    have e := orB_bt (f := f) hn k (by omega)
    rw [h, b_0, hf] at e
    simp [hk] at e
theorem mask_bt : ∀ a, a < 9 → ∀ b, b < 9 → ∀ i, i < 32 → bt ((((1 : Int32) <<< (nI a &&& 31)) - 1) <<< (nI b &&& 31)) i = decide (b ≤ i ∧ i < b + a) := by decide +kernel
theorem orB_mask {f : Nat → Bool} {n a b : Nat} (hn : n ≤ 8) (hab : b + a ≤ n) : ¬ (orB f n &&& ((((1 : Int32) <<< (nI a &&& 31)) - 1) <<< (nI b &&& 31))) = 0 ↔ ∃ k, k < a ∧ f (b + k) = true := by
  constructor
  · intro h
    apply Classical.byContradiction
    intro q
    apply h
    apply b_ext
    intro i hi
    rw [b_and, orB_bt hn i hi, b_0, mask_bt a (by omega) b (by omega) i hi]
    by_cases h2 : b ≤ i ∧ i < b + a
    · have : ¬ f i = true := fun z => q ⟨i - b, by omega, by rw [show b + (i - b) = i by omega]; exact z⟩
      simp at this; simp [this]
    · simp [h2]
  · rintro ⟨k, hk, hf⟩ h
    have e := orB_bt (f := f) hn (b + k) (by omega)
    have e2 := mask_bt a (by omega) b (by omega) (b + k) (by omega)
    have e3 := congrArg (fun x => bt x (b + k)) h
    simp only [b_and, b_0, e, e2, hf] at e3
    have h4 : b + k < n := by omega
    have h5 : b + k < b + a := by omega
    simp [h4, h5] at e3
theorem orB_off {f : Nat → Bool} {a b : Nat} (ha : a ≤ 8) : ¬ orB (fun k => f (b + k)) a = 0 ↔ ∃ k, k < a ∧ f (b + k) = true := orB_ne ha
/-- one more bit, as Parts.bits has it -/
theorem bit_or : ∀ n, n < 8 → ∀ b : Bool, (lN (if b then 1 else 0)).toInt32 <<< (nI n &&& 31) = if b then (1 : Int32) <<< (nI n &&& 31) else 0 := by decide +kernel
end
section
/-! Contracts of PartsFlow$Parts: any world that holds the object(s) and their words -/
abbrev rmZ : Room := { frames := 0, cells := 0, slots := 0, locals := 0 }
abbrev pO (lo : Nat) : va_E := .inr (2, [.ref lo])
abbrev pL (cA : Nat → ClassId) (S : Nat → Bool) : va_E := .inl (cA 3, 3, .inr (.inl (wd S)))
theorem gs {ws : va_W} {i j : Nat} {x y : Nat × va_E} (h : ws[j]? = some y) (hne : i ≠ j) : (ws.set i x)[j]? = some y := by rw [List.getElem?_set_ne hne]; exact h
theorem gs_self {ws : va_W} {i : Nat} {x y : Nat × va_E} (h : ws[i]? = some y) : (ws.set i x)[i]? = some x := List.getElem?_set_self (List.getElem?_eq_some_iff.mp h).1
theorem ws_same {ws : va_W} {i : Nat} {x : Nat × va_E} (h : ws[i]? = some x) : ws.set i x = ws := by
  apply List.ext_getElem?
  intro j
  by_cases hj : i = j
  · subst hj; rw [gs_self h, h]
  · rw [List.getElem?_set_ne hj]
theorem ne_oa {ws : va_W} {i j a b : Nat} {x : ClassId × vp_A} {y : Nat × List Value} (h1 : ws[i]? = some (a, .inl x)) (h2 : ws[j]? = some (b, .inr y)) : i ≠ j := by
  intro e; subst e; rw [h1] at h2; cases h2
theorem nI_iinc (i : Nat) : nI i + Int32.ofInt 1 = nI (i + 1) := nI_1 i
set_option maxHeartbeats 4000000 in
set_option maxRecDepth 100000 in
theorem c_PP_clear (l : Launch) (D : va_G) (cA : Nat → ClassId) (ws : va_W) (i0 i1 o lo : Nat) (S : Nat → Bool) (e0 : ws[i0]? = some (o, pO lo)) (e1 : ws[i1]? = some (lo, pL cA S)) : CtV l y_PP_clear b_PP_clear 2 none rmZ D cA [.ref o] ws (fun u => u = ws.set i1 (lo, pL cA (clrS S))) := by
  refine CtV.of (by decide) (Nat.le_of_ble_eq_true rfl) ?_
  intro p e s m below meth c ls C hin hr h hl
  obtain ⟨hx, hb, hml, hown, hts, hK, hlk⟩ := id C
  have hNW := hK.2
  have hl : lv_has ls 2 [(0, .ref o)] := hl
  refine lv_iconst (v := nI 0) hx hb d_PP_clear_0 (by decide) ?_
  refine lv_istore_n (lv' := [(1, .int (nI 0)), (0, .ref o)]) hx hb d_PP_clear_1 rfl hl (by decide) rfl (fun ls hl => ?_)
  refine w_loop (σ := Nat) 2 (fun i => 3 - i) (fun i H locs ls => i ≤ 3 ∧ Hp (va_A ws s.heap.size) s D (ws.set i1 (lo, pL cA (clrI S i))) H locs ∧ lv_has ls 2 [(1, .int (nI i)), (0, .ref o)]) ?_ 0 ⟨Nat.zero_le _, by rw [clrI_0, ws_same e1]; exact h, hl⟩
  intro i H locs ls ⟨hi, h, hl⟩ ih
  refine lv_iload_n hx hb d_PP_clear_2 rfl (lv_at hl 0 rfl) ?_
  refine lv_iconst (v := nI 3) hx hb d_PP_clear_3 (by decide) ?_
  refine lv_icmp_ge (tgt := 20) hx hb d_PP_clear_4 (by decide) (fun c1 => ?_) (fun c1 => ?_)
  · have hi3 : i = 3 := by rcases Nat.lt_or_ge i 3 with q | q; exact absurd c1 (nI_ge q (by decide)); omega
    subst hi3
    exact r_vret C h hr rfl d_PP_clear_20
  · have hlt : i < 3 := by rcases Nat.lt_or_ge i 3 with q | q; exact q; exact absurd (nI_le q (by omega)) c1
    refine lv_aload_n hx hb d_PP_clear_7 rfl (lv_at hl 1 rfl) ?_
    refine r_get C h fl_PP_9 i0 (gs e0 (ne_oa e1 e0)) rfl d_PP_clear_8 ?_
    refine lv_iload_n hx hb d_PP_clear_11 rfl (lv_at hl 0 rfl) ?_
    refine lv_lconst (v := 0) hx hb d_PP_clear_12 (by decide) ?_
    refine r_last C h i1 (gs_self e1) (i) (hlt) (rfl) (by decide) (g := wd (clrI S (i + 1))) (clrI_s S i) (ws' := ws.set i1 (lo, pL cA (clrI S (i + 1)))) (by rw [List.set_set]) d_PP_clear_13 (fun H locs h => ?_)
    refine lv_iinc (v := nI (i + 1)) (lv' := [(1, .int (nI (i + 1))), (0, .ref o)]) hx hb d_PP_clear_14 hl (k := 0) rfl (nI_iinc i) (by decide) rfl (fun ls hl => ?_)
    refine lv_goto (tgt := 2) hx hb d_PP_clear_17 (by decide) ?_
    exact ih (i + 1) H locs ls ⟨hlt, h, hl⟩ (by omega)
set_option maxHeartbeats 4000000 in
set_option maxRecDepth 100000 in
theorem c_PP_copy (l : Launch) (D : va_G) (cA : Nat → ClassId) (ws : va_W) (i0 i1 o lo : Nat) (S : Nat → Bool) (e0 : ws[i0]? = some (o, pO lo)) (e1 : ws[i1]? = some (lo, pL cA S)) (i2 i3 po lp : Nat) (T : Nat → Bool) (e2 : ws[i2]? = some (po, pO lp)) (e3 : ws[i3]? = some (lp, pL cA T)) (h13 : i1 ≠ i3) : CtV l y_PP_copy b_PP_copy 3 none rmZ D cA [.ref o, .ref po] ws (fun u => u = ws.set i1 (lo, pL cA (copS S T))) := by
  refine CtV.of (by decide) (Nat.le_of_ble_eq_true rfl) ?_
  intro p e s m below meth c ls C hin hr h hl
  obtain ⟨hx, hb, hml, hown, hts, hK, hlk⟩ := id C
  have hNW := hK.2
  have hl : lv_has ls 3 [(0, .ref o), (1, .ref po)] := hl
  refine lv_iconst (v := nI 0) hx hb d_PP_copy_0 (by decide) ?_
  refine lv_istore_n (lv' := [(2, .int (nI 0)), (0, .ref o), (1, .ref po)]) hx hb d_PP_copy_1 rfl hl (by decide) rfl (fun ls hl => ?_)
  refine w_loop (σ := Nat) 2 (fun i => 3 - i) (fun i H locs ls => i ≤ 3 ∧ Hp (va_A ws s.heap.size) s D (ws.set i1 (lo, pL cA (copI S T i))) H locs ∧ lv_has ls 3 [(2, .int (nI i)), (0, .ref o), (1, .ref po)]) ?_ 0 ⟨Nat.zero_le _, by rw [copI_0, ws_same e1]; exact h, hl⟩
  intro i H locs ls ⟨hi, h, hl⟩ ih
  refine lv_iload_n hx hb d_PP_copy_2 rfl (lv_at hl 0 rfl) ?_
  refine lv_iconst (v := nI 3) hx hb d_PP_copy_3 (by decide) ?_
  refine lv_icmp_ge (tgt := 25) hx hb d_PP_copy_4 (by decide) (fun c1 => ?_) (fun c1 => ?_)
  · have hi3 : i = 3 := by rcases Nat.lt_or_ge i 3 with q | q; exact absurd c1 (nI_ge q (by decide)); omega
    subst hi3
    exact r_vret C h hr rfl d_PP_copy_25
  · have hlt : i < 3 := by rcases Nat.lt_or_ge i 3 with q | q; exact q; exact absurd (nI_le q (by omega)) c1
    refine lv_aload_n hx hb d_PP_copy_7 rfl (lv_at hl 1 rfl) ?_
    refine r_get C h fl_PP_9 i0 (gs e0 (ne_oa e1 e0)) rfl d_PP_copy_8 ?_
    refine lv_iload_n hx hb d_PP_copy_11 rfl (lv_at hl 0 rfl) ?_
    refine lv_aload_n hx hb d_PP_copy_12 rfl (lv_at hl 2 rfl) ?_
    refine r_get C h fl_PP_9 i2 (gs e2 (ne_oa e1 e2)) rfl d_PP_copy_13 ?_
    refine lv_iload_n hx hb d_PP_copy_16 rfl (lv_at hl 0 rfl) ?_
    refine r_lald C h i3 (gs e3 h13) (i) (hlt) (rfl) (by decide) (v := wd T i) (rfl) d_PP_copy_17 ?_
    refine r_last C h i1 (gs_self e1) (i) (hlt) (rfl) (by decide) (g := wd (copI S T (i + 1))) (copI_s S T i) (ws' := ws.set i1 (lo, pL cA (copI S T (i + 1)))) (by rw [List.set_set]) d_PP_copy_18 (fun H locs h => ?_)
    refine lv_iinc (v := nI (i + 1)) (lv' := [(2, .int (nI (i + 1))), (0, .ref o), (1, .ref po)]) hx hb d_PP_copy_19 hl (k := 0) rfl (nI_iinc i) (by decide) rfl (fun ls hl => ?_)
    refine lv_goto (tgt := 2) hx hb d_PP_copy_22 (by decide) ?_
    exact ih (i + 1) H locs ls ⟨hlt, h, hl⟩ (by omega)
set_option maxHeartbeats 4000000 in
set_option maxRecDepth 100000 in
theorem c_PP_addAll (l : Launch) (D : va_G) (cA : Nat → ClassId) (ws : va_W) (i0 i1 o lo : Nat) (S : Nat → Bool) (e0 : ws[i0]? = some (o, pO lo)) (e1 : ws[i1]? = some (lo, pL cA S)) (i2 i3 po lp : Nat) (T : Nat → Bool) (e2 : ws[i2]? = some (po, pO lp)) (e3 : ws[i3]? = some (lp, pL cA T)) (h13 : i1 ≠ i3) : CtI l y_PP_addAll b_PP_addAll 4 (some .boolean) rmZ D cA [.ref o, .ref po] ws (fun r u => ∃ b : Bool, r = bI b ∧ (b = true ↔ ∃ k, k < 192 ∧ T k = true ∧ S k = false) ∧ u = ws.set i1 (lo, pL cA (addS S T))) := by
  refine CtI.of (by decide) (Nat.le_of_ble_eq_true rfl) ?_
  intro p e s m below meth c ls C hin hr h hl
  obtain ⟨hx, hb, hml, hown, hts, hK, hlk⟩ := id C
  have hNW := hK.2
  have hl : lv_has ls 4 [(0, .ref o), (1, .ref po)] := hl
  refine lv_iconst (v := bI false) hx hb d_PP_addAll_0 (by decide) ?_
  refine lv_istore_n (lv' := [(2, .int (bI false)), (0, .ref o), (1, .ref po)]) hx hb d_PP_addAll_1 rfl hl (by decide) rfl (fun ls hl => ?_)
  refine lv_iconst (v := nI 0) hx hb d_PP_addAll_2 (by decide) ?_
  refine lv_istore_n (lv' := [(3, .int (nI 0)), (2, .int (bI false)), (0, .ref o), (1, .ref po)]) hx hb d_PP_addAll_3 rfl hl (by decide) rfl (fun ls hl => ?_)
  refine w_loop (σ := Nat × Bool) 4 (fun x => 3 - x.1) (fun x H locs ls => x.1 ≤ 3 ∧ Hp (va_A ws s.heap.size) s D (ws.set i1 (lo, pL cA (addI S T x.1))) H locs ∧ (x.2 = true ↔ ∃ k, k < 64 * x.1 ∧ T k = true ∧ S k = false) ∧ lv_has ls 4 [(3, .int (nI x.1)), (2, .int (bI x.2)), (0, .ref o), (1, .ref po)]) ?_ (0, false) ⟨Nat.zero_le _, by rw [addI_0, ws_same e1]; exact h, ⟨fun q => (by cases q), fun ⟨k, q, _⟩ => absurd q (by simp)⟩, hl⟩
  intro ⟨i, b⟩ H locs ls ⟨hi, h, hm, hl⟩ ih
  dsimp only at hi h hm hl ih
  refine lv_iload_n hx hb d_PP_addAll_4 rfl (lv_at hl 0 rfl) ?_
  refine lv_iconst (v := nI 3) hx hb d_PP_addAll_5 (by decide) ?_
  refine lv_icmp_ge (tgt := 62) hx hb d_PP_addAll_6 (by decide) (fun c1 => ?_) (fun c1 => ?_)
  · have hi3 : i = 3 := by rcases Nat.lt_or_ge i 3 with q | q; exact absurd c1 (nI_ge q (by decide)); omega
    subst hi3
    refine lv_iload_n hx hb d_PP_addAll_62 rfl (lv_at hl 1 rfl) ?_
    exact r_zret b C h hr rfl ⟨b, rfl, hm, rfl⟩ d_PP_addAll_63
  · have hlt : i < 3 := by rcases Nat.lt_or_ge i 3 with q | q; exact q; exact absurd (nI_le q (by omega)) c1
    refine lv_iload_n hx hb d_PP_addAll_9 rfl (lv_at hl 1 rfl) ?_
    refine w_join 40 [] (fun v => ∃ b2 : Bool, v = bI b2 ∧ (b2 = true ↔ ∃ k, k < 64 * (i + 1) ∧ T k = true ∧ S k = false)) (fun hj => ?_) (fun v hv => ?_)
    · refine lv_if_ne (tgt := 35) hx hb d_PP_addAll_10 (by decide) (fun c2 => ?_) (fun c2 => ?_)
      · have hbt : b = true := bI_n0.mp c2
        refine lv_iconst (v := 1) hx hb d_PP_addAll_35 (by decide) ?_
        refine lv_goto (tgt := 40) hx hb d_PP_addAll_36 (by decide) ?_
        refine hj 1 ⟨true, rfl, ⟨fun _ => ?_, fun _ => rfl⟩⟩
        obtain ⟨k, k1, k2⟩ := hm.mp hbt
        exact ⟨k, by omega, k2⟩
      · have hbf : b = false := bI_0.mp c2
        refine lv_aload_n hx hb d_PP_addAll_13 rfl (lv_at hl 3 rfl) ?_
        refine r_get C h fl_PP_9 i2 (gs e2 (ne_oa e1 e2)) rfl d_PP_addAll_14 ?_
        refine lv_iload_n hx hb d_PP_addAll_17 rfl (lv_at hl 0 rfl) ?_
        refine r_lald C h i3 (gs e3 h13) (i) (hlt) (rfl) (by decide) (v := wd T i) (rfl) d_PP_addAll_18 ?_
        refine lv_aload_n hx hb d_PP_addAll_19 rfl (lv_at hl 2 rfl) ?_
        refine r_get C h fl_PP_9 i0 (gs e0 (ne_oa e1 e0)) rfl d_PP_addAll_20 ?_
        refine lv_iload_n hx hb d_PP_addAll_23 rfl (lv_at hl 0 rfl) ?_
        refine r_lald C h i1 (gs_self e1) (i) (hlt) (rfl) (by decide) (v := wd (addI S T i) i) (rfl) d_PP_addAll_24 ?_
        refine lv_ldc2 (v := -1) hx hb hown (hts _ wk_PP_13) d_PP_addAll_25 ?_
        refine lv_lxor hx hb d_PP_addAll_28 ?_
        refine lv_land hx hb d_PP_addAll_29 ?_
        refine lv_lconst (v := 0) hx hb d_PP_addAll_30 (by decide) ?_
        refine W.lcmp hx hb d_PP_addAll_31 ?_
        refine lv_if_eq (tgt := 39) hx hb d_PP_addAll_32 (by decide) (fun c3 => ?_) (fun c3 => ?_)
        · refine lv_iconst (v := 0) hx hb d_PP_addAll_39 (by decide) ?_
          refine hj 0 ⟨false, rfl, ⟨fun q => (by cases q), fun ⟨k, k1, k2, k3⟩ => ?_⟩⟩
          have hz := (addI_m S T i).mp (lg_0.mp c3)
          rcases Nat.lt_or_ge k (64 * i) with q | q
          · exact absurd (hm.mpr ⟨k, q, k2, k3⟩) (by rw [hbf]; decide)
          · exact absurd ⟨k - 64 * i, by omega, by rw [show 64 * i + (k - 64 * i) = k by omega]; exact k2, by rw [show 64 * i + (k - 64 * i) = k by omega]; exact k3⟩ hz
        · refine lv_iconst (v := 1) hx hb d_PP_addAll_35 (by decide) ?_
          refine lv_goto (tgt := 40) hx hb d_PP_addAll_36 (by decide) ?_
          refine hj 1 ⟨true, rfl, ⟨fun _ => ?_, fun _ => rfl⟩⟩
          have hz := Classical.not_not.mp (fun q => c3 (lg_0.mpr ((addI_m S T i).mpr q)))
          obtain ⟨j, j1, j2, j3⟩ := hz
          exact ⟨64 * i + j, by omega, j2, j3⟩
    · obtain ⟨b2, rfl, hm2⟩ := hv
      refine lv_istore_n (lv' := [(2, .int (bI b2)), (3, .int (nI i)), (0, .ref o), (1, .ref po)]) hx hb d_PP_addAll_40 rfl hl (by decide) rfl (fun ls hl => ?_)
      refine lv_aload_n hx hb d_PP_addAll_41 rfl (lv_at hl 2 rfl) ?_
      refine r_get C h fl_PP_9 i0 (gs e0 (ne_oa e1 e0)) rfl d_PP_addAll_42 ?_
      refine lv_iload_n hx hb d_PP_addAll_45 rfl (lv_at hl 1 rfl) ?_
      refine lv_dup2_11 hx hb d_PP_addAll_46 rfl rfl ?_
      refine r_lald C h i1 (gs_self e1) (i) (hlt) (rfl) (by decide) (v := wd (addI S T i) i) (rfl) d_PP_addAll_47 ?_
      refine lv_aload_n hx hb d_PP_addAll_48 rfl (lv_at hl 3 rfl) ?_
      refine r_get C h fl_PP_9 i2 (gs e2 (ne_oa e1 e2)) rfl d_PP_addAll_49 ?_
      refine lv_iload_n hx hb d_PP_addAll_52 rfl (lv_at hl 1 rfl) ?_
      refine r_lald C h i3 (gs e3 h13) (i) (hlt) (rfl) (by decide) (v := wd T i) (rfl) d_PP_addAll_53 ?_
      refine lv_lor hx hb d_PP_addAll_54 ?_
      refine r_last C h i1 (gs_self e1) (i) (hlt) (rfl) (by decide) (g := wd (addI S T (i + 1))) (addI_s S T i) (ws' := ws.set i1 (lo, pL cA (addI S T (i + 1)))) (by rw [List.set_set]) d_PP_addAll_55 (fun H locs h => ?_)
      refine lv_iinc (v := nI (i + 1)) (lv' := [(3, .int (nI (i + 1))), (2, .int (bI b2)), (0, .ref o), (1, .ref po)]) hx hb d_PP_addAll_56 hl (k := 1) rfl (nI_iinc i) (by decide) rfl (fun ls hl => ?_)
      refine lv_goto (tgt := 4) hx hb d_PP_addAll_59 (by decide) ?_
      exact ih (i + 1, b2) H locs ls ⟨hlt, h, hm2, hl⟩ (by show 3 - (i + 1) < 3 - i; omega)
set_option maxHeartbeats 4000000 in
set_option maxRecDepth 100000 in
theorem c_PP_set (l : Launch) (D : va_G) (cA : Nat → ClassId) (ws : va_W) (i0 i1 o lo : Nat) (S : Nat → Bool) (e0 : ws[i0]? = some (o, pO lo)) (e1 : ws[i1]? = some (lo, pL cA S)) (f n : Nat) (b : Bool) (hfn : f + n ≤ 192) : CtV l y_PP_set b_PP_set 5 none rmZ D cA [.ref o, .int (nI f), .int (nI n), .int (bI b)] ws (fun u => u = ws.set i1 (lo, pL cA (setS S f n b))) := by
  refine CtV.of (by decide) (Nat.le_of_ble_eq_true rfl) ?_
  intro p e s m below meth c ls C hin hr h hl
  obtain ⟨hx, hb, hml, hown, hts, hK, hlk⟩ := id C
  have hNW := hK.2
  have hl : lv_has ls 5 [(0, .ref o), (1, .int (nI f)), (2, .int (nI n)), (3, .int (bI b))] := hl
  refine lv_iload_n hx hb d_PP_set_0 rfl (lv_at hl 1 rfl) ?_
  refine lv_istore (lv' := [(4, .int (nI f)), (0, .ref o), (1, .int (nI f)), (2, .int (nI n)), (3, .int (bI b))]) hx hb d_PP_set_1 hl (by decide) rfl (fun ls hl => ?_)
  refine w_loop (σ := Nat) 3 (fun i => n - i) (fun i H locs ls => i ≤ n ∧ Hp (va_A ws s.heap.size) s D (ws.set i1 (lo, pL cA (setS S f i b))) H locs ∧ lv_has ls 5 [(4, .int (nI (f + i))), (0, .ref o), (1, .int (nI f)), (2, .int (nI n)), (3, .int (bI b))]) ?_ 0 ⟨Nat.zero_le _, by rw [setS_0, ws_same e1]; exact h, hl⟩
  intro i H locs ls ⟨hi, h, hl⟩ ih
  refine lv_iload hx hb d_PP_set_3 (lv_at hl 0 rfl) ?_
  refine lv_iload_n hx hb d_PP_set_5 rfl (lv_at hl 2 rfl) ?_
  refine lv_iload_n hx hb d_PP_set_6 rfl (lv_at hl 3 rfl) ?_
  refine lv_iadd hx hb d_PP_set_7 ?_
  refine w_i (nI (f + n)) (nI_add f n) ?_
  refine lv_icmp_ge (tgt := 68) hx hb d_PP_set_8 (by decide) (fun c1 => ?_) (fun c1 => ?_)
  · have hi3 : i = n := by rcases Nat.lt_or_ge i n with q | q; exact absurd c1 (nI_ge (by omega) (by omega)); omega
    subst hi3
    exact r_vret C h hr rfl d_PP_set_68
  · have hlt : i < n := by rcases Nat.lt_or_ge i n with q | q; exact q; exact absurd (nI_le (by omega) (by omega)) c1
    refine lv_iload_n hx hb d_PP_set_11 rfl (lv_at hl 4 rfl) ?_
    refine lv_if_eq (tgt := 38) hx hb d_PP_set_12 (by decide) (fun c2 => ?_) (fun c2 => ?_)
    · have hbf : b = false := bI_0.mp c2
      refine lv_aload_n hx hb d_PP_set_38 rfl (lv_at hl 1 rfl) ?_
      refine r_get C h fl_PP_9 i0 (gs e0 (ne_oa e1 e0)) rfl d_PP_set_39 ?_
      refine lv_iload hx hb d_PP_set_42 (lv_at hl 0 rfl) ?_
      refine lv_bipush (v := nI 64) hx hb d_PP_set_44 (by decide) ?_
      refine lv_idiv hx hb d_PP_set_46 (by decide) ?_
      refine w_i (nI ((f + i) / 64)) (pk_div (by omega) (by decide) (by decide)) ?_
      refine lv_dup2_11 hx hb d_PP_set_47 rfl rfl ?_
      refine r_lald C h i1 (gs_self e1) ((f + i) / 64) (by omega) (rfl) (by decide) (v := wd (setS S f i b) ((f + i) / 64)) (rfl) d_PP_set_48 ?_
      refine lv_lconst (v := 1) hx hb d_PP_set_49 (by decide) ?_
      refine lv_iload hx hb d_PP_set_50 (lv_at hl 0 rfl) ?_
      refine lv_bipush (v := nI 64) hx hb d_PP_set_52 (by decide) ?_
      refine lv_irem hx hb d_PP_set_54 (by decide) ?_
      refine w_i (nI ((f + i) % 64)) (pk_rem (by omega) (by decide) (by decide)) ?_
      refine lv_lshl hx hb d_PP_set_55 rfl ?_
      refine lv_ldc2 (v := -1) hx hb hown (hts _ wk_PP_13) d_PP_set_56 ?_
      refine lv_lxor hx hb d_PP_set_59 ?_
      refine lv_land hx hb d_PP_set_60 ?_
      refine r_last C h i1 (gs_self e1) ((f + i) / 64) (by omega) (rfl) (by decide) (g := wd (setS S f (i + 1) b)) (by rw [wd_clr, ← setS_s, hbf]) (ws' := ws.set i1 (lo, pL cA (setS S f (i + 1) b))) (by rw [List.set_set]) d_PP_set_61 (fun H locs h => ?_)
      refine lv_iinc (v := nI (f + (i + 1))) (lv' := [(4, .int (nI (f + (i + 1)))), (0, .ref o), (1, .int (nI f)), (2, .int (nI n)), (3, .int (bI b))]) hx hb d_PP_set_62 hl (k := 0) rfl (nI_iinc (f + i)) (by decide) rfl (fun ls hl => ?_)
      refine lv_goto (tgt := 3) hx hb d_PP_set_65 (by decide) ?_
      exact ih (i + 1) H locs ls ⟨hlt, h, hl⟩ (by omega)
    · have hbt : b = true := bI_n0.mp c2
      refine lv_aload_n hx hb d_PP_set_15 rfl (lv_at hl 1 rfl) ?_
      refine r_get C h fl_PP_9 i0 (gs e0 (ne_oa e1 e0)) rfl d_PP_set_16 ?_
      refine lv_iload hx hb d_PP_set_19 (lv_at hl 0 rfl) ?_
      refine lv_bipush (v := nI 64) hx hb d_PP_set_21 (by decide) ?_
      refine lv_idiv hx hb d_PP_set_23 (by decide) ?_
      refine w_i (nI ((f + i) / 64)) (pk_div (by omega) (by decide) (by decide)) ?_
      refine lv_dup2_11 hx hb d_PP_set_24 rfl rfl ?_
      refine r_lald C h i1 (gs_self e1) ((f + i) / 64) (by omega) (rfl) (by decide) (v := wd (setS S f i b) ((f + i) / 64)) (rfl) d_PP_set_25 ?_
      refine lv_lconst (v := 1) hx hb d_PP_set_26 (by decide) ?_
      refine lv_iload hx hb d_PP_set_27 (lv_at hl 0 rfl) ?_
      refine lv_bipush (v := nI 64) hx hb d_PP_set_29 (by decide) ?_
      refine lv_irem hx hb d_PP_set_31 (by decide) ?_
      refine w_i (nI ((f + i) % 64)) (pk_rem (by omega) (by decide) (by decide)) ?_
      refine lv_lshl hx hb d_PP_set_32 rfl ?_
      refine lv_lor hx hb d_PP_set_33 ?_
      refine r_last C h i1 (gs_self e1) ((f + i) / 64) (by omega) (rfl) (by decide) (g := wd (setS S f (i + 1) b)) (by rw [wd_set, ← setS_s, hbt]) (ws' := ws.set i1 (lo, pL cA (setS S f (i + 1) b))) (by rw [List.set_set]) d_PP_set_34 (fun H locs h => ?_)
      refine lv_goto (tgt := 62) hx hb d_PP_set_35 (by decide) ?_
      refine lv_iinc (v := nI (f + (i + 1))) (lv' := [(4, .int (nI (f + (i + 1)))), (0, .ref o), (1, .int (nI f)), (2, .int (nI n)), (3, .int (bI b))]) hx hb d_PP_set_62 hl (k := 0) rfl (nI_iinc (f + i)) (by decide) rfl (fun ls hl => ?_)
      refine lv_goto (tgt := 3) hx hb d_PP_set_65 (by decide) ?_
      exact ih (i + 1) H locs ls ⟨hlt, h, hl⟩ (by omega)
set_option maxHeartbeats 4000000 in
set_option maxRecDepth 100000 in
theorem c_PP_bits (l : Launch) (D : va_G) (cA : Nat → ClassId) (ws : va_W) (i0 i1 o lo : Nat) (S : Nat → Bool) (e0 : ws[i0]? = some (o, pO lo)) (e1 : ws[i1]? = some (lo, pL cA S)) (f n : Nat) (hfn : f + n ≤ 192) (hn : n ≤ 8) : CtI l y_PP_bits b_PP_bits 5 (some .int) rmZ D cA [.ref o, .int (nI f), .int (nI n)] ws (fun r u => r = orB (fun k => S (f + k)) n ∧ u = ws) := by
  refine CtI.of (by decide) (Nat.le_of_ble_eq_true rfl) ?_
  intro p e s m below meth c ls C hin hr h hl
  obtain ⟨hx, hb, hml, hown, hts, hK, hlk⟩ := id C
  have hNW := hK.2
  have hl : lv_has ls 5 [(0, .ref o), (1, .int (nI f)), (2, .int (nI n))] := hl
  refine lv_iconst (v := orB (fun k => S (f + k)) 0) hx hb d_PP_bits_0 (rfl) ?_
  refine lv_istore_n (lv' := [(3, .int (orB (fun k => S (f + k)) 0)), (0, .ref o), (1, .int (nI f)), (2, .int (nI n))]) hx hb d_PP_bits_1 rfl hl (by decide) rfl (fun ls hl => ?_)
  refine lv_iconst (v := nI 0) hx hb d_PP_bits_2 (by decide) ?_
  refine lv_istore (lv' := [(4, .int (nI 0)), (3, .int (orB (fun k => S (f + k)) 0)), (0, .ref o), (1, .int (nI f)), (2, .int (nI n))]) hx hb d_PP_bits_3 hl (by decide) rfl (fun ls hl => ?_)
  refine w_loop (σ := Nat) 5 (fun i => n - i) (fun i H locs ls => i ≤ n ∧ Hp (va_A ws s.heap.size) s D ws H locs ∧ lv_has ls 5 [(4, .int (nI i)), (3, .int (orB (fun k => S (f + k)) i)), (0, .ref o), (1, .int (nI f)), (2, .int (nI n))]) ?_ 0 ⟨Nat.zero_le _, h, hl⟩
  intro i H locs ls ⟨hi, h, hl⟩ ih
  refine lv_iload hx hb d_PP_bits_5 (lv_at hl 0 rfl) ?_
  refine lv_iload_n hx hb d_PP_bits_7 rfl (lv_at hl 4 rfl) ?_
  refine lv_icmp_ge (tgt := 46) hx hb d_PP_bits_8 (by decide) (fun c1 => ?_) (fun c1 => ?_)
  · have hi3 : i = n := by rcases Nat.lt_or_ge i n with q | q; exact absurd c1 (nI_ge q (by omega)); omega
    subst hi3
    refine lv_iload_n hx hb d_PP_bits_46 rfl (lv_at hl 1 rfl) ?_
    exact r_iret C h hr ⟨rfl, rfl⟩ d_PP_bits_47
  · have hlt : i < n := by rcases Nat.lt_or_ge i n with q | q; exact q; exact absurd (nI_le q (by omega)) c1
    refine lv_iload_n hx hb d_PP_bits_11 rfl (lv_at hl 1 rfl) ?_
    refine lv_aload_n hx hb d_PP_bits_12 rfl (lv_at hl 2 rfl) ?_
    refine r_get C h fl_PP_9 i0 e0 rfl d_PP_bits_13 ?_
    refine lv_iload_n hx hb d_PP_bits_16 rfl (lv_at hl 3 rfl) ?_
    refine lv_iload hx hb d_PP_bits_17 (lv_at hl 0 rfl) ?_
    refine lv_iadd hx hb d_PP_bits_19 ?_
    refine w_i (nI (f + i)) (nI_add f i) ?_
    refine lv_bipush (v := nI 64) hx hb d_PP_bits_20 (by decide) ?_
    refine lv_idiv hx hb d_PP_bits_22 (by decide) ?_
    refine w_i (nI ((f + i) / 64)) (pk_div (by omega) (by decide) (by decide)) ?_
    refine r_lald C h i1 e1 ((f + i) / 64) (by omega) (rfl) (by decide) (v := wd S ((f + i) / 64)) (rfl) d_PP_bits_23 ?_
    refine lv_iload_n hx hb d_PP_bits_24 rfl (lv_at hl 3 rfl) ?_
    refine lv_iload hx hb d_PP_bits_25 (lv_at hl 0 rfl) ?_
    refine lv_iadd hx hb d_PP_bits_27 ?_
    refine w_i (nI (f + i)) (nI_add f i) ?_
    refine lv_bipush (v := nI 64) hx hb d_PP_bits_28 (by decide) ?_
    refine lv_irem hx hb d_PP_bits_30 (by decide) ?_
    refine w_i (nI ((f + i) % 64)) (pk_rem (by omega) (by decide) (by decide)) ?_
    refine lv_lshr hx hb d_PP_bits_31 rfl ?_
    refine lv_lconst (v := 1) hx hb d_PP_bits_32 (by decide) ?_
    refine lv_land hx hb d_PP_bits_33 ?_
    refine w_l (lN (if S (f + i) then 1 else 0)) (wd_bit S (f + i)) ?_
    refine lv_l2i hx hb d_PP_bits_34 rfl ?_
    refine lv_iload hx hb d_PP_bits_35 (lv_at hl 0 rfl) ?_
    refine lv_ishl hx hb d_PP_bits_37 ?_
    refine w_i (if S (f + i) then (1 : Int32) <<< (nI i &&& 31) else 0) (bit_or i (by omega) (S (f + i))) ?_
    refine lv_ior hx hb d_PP_bits_38 ?_
    refine w_i (orB (fun k => S (f + k)) (i + 1)) (rfl) ?_
    refine lv_istore_n (lv' := [(3, .int (orB (fun k => S (f + k)) (i + 1))), (4, .int (nI i)), (0, .ref o), (1, .int (nI f)), (2, .int (nI n))]) hx hb d_PP_bits_39 rfl hl (by decide) rfl (fun ls hl => ?_)
    refine lv_iinc (v := nI (i + 1)) (lv' := [(4, .int (nI (i + 1))), (3, .int (orB (fun k => S (f + k)) (i + 1))), (0, .ref o), (1, .int (nI f)), (2, .int (nI n))]) hx hb d_PP_bits_40 hl (k := 1) rfl (nI_iinc i) (by decide) rfl (fun ls hl => ?_)
    refine lv_goto (tgt := 5) hx hb d_PP_bits_43 (by decide) ?_
    exact ih (i + 1) H locs ls ⟨hlt, h, hl⟩ (by omega)
end
section
/-! The worlds of PartsFlow (wPF) and of PartsFlowModel (wPM) as functions of pure states -/
abbrev VS : Type := Nat × (Nat → Nat) × (Nat → Bool) × (Nat → Bool)
abbrev vN (V : VS) : Nat := V.1
abbrev vF (V : VS) : Nat → Nat := V.2.1
abbrev vO (V : VS) : Nat → Bool := V.2.2.1
abbrev vG (V : VS) : Nat → Bool := V.2.2.2
abbrev GS : Type := Nat × (Nat → Nat) × (Nat → Nat) × (Nat → Nat) × (Nat → Nat) × (Nat → Int32) × (Nat → Int32)
abbrev gN (G : GS) : Nat := G.1
abbrev gD (G : GS) : Nat → Nat := G.2.1
abbrev gO (G : GS) : Nat → Nat := G.2.2.1
abbrev gP (G : GS) : Nat → Nat := G.2.2.2.1
abbrev gC (G : GS) : Nat → Nat := G.2.2.2.2.1
abbrev gX (G : GS) : Nat → Int32 := G.2.2.2.2.2.1
abbrev gY (G : GS) : Nat → Int32 := G.2.2.2.2.2.2
abbrev KS : Type := Bool × Bool × (Nat → Bool) × (Nat → Bool) × (Nat → Bool) × (Nat → Nat → Bool) × (Nat → Nat → Bool)
abbrev kKn (K : KS) : Bool := K.1
abbrev kCh (K : KS) : Bool := K.2.1
abbrev kRc (K : KS) : Nat → Bool := K.2.2.1
abbrev kNw (K : KS) : Nat → Bool := K.2.2.2.1
abbrev kNh (K : KS) : Nat → Bool := K.2.2.2.2.1
abbrev kLw (K : KS) : Nat → Nat → Bool := K.2.2.2.2.2.1
abbrev kLh (K : KS) : Nat → Nat → Bool := K.2.2.2.2.2.2
def pcell (cA : Nat → ClassId) (ad : Nat → Nat) (Lw Lh : Nat → Nat → Bool) (t : Nat) : Nat × va_E := (ad (18 + t), if t % 4 = 0 then pO (ad (19 + t)) else if t % 4 = 1 then pL cA (Lw (t / 4)) else if t % 4 = 2 then pO (ad (19 + t)) else pL cA (Lh (t / 4)))
def wPF (cA : Nat → ClassId) (ad : Nat → Nat) (V : VS) (G : GS) (K : KS) : va_W :=
  [(ad 0, .inr (0, [.ref (ad 1), .ref (ad 5), .ref (ad 6), .ref (ad 7), .ref (ad 8), .ref (ad 9), .ref (ad 10), .int (nI (gN G)), .ref (ad 12), .ref (ad 13), .ref (ad 11), .ref (ad 14), .ref (ad 16), .int (bI (kKn K)), .int (bI (kCh K))])),
   (ad 1, .inr (1, [.ref (ad 2), .ref (ad 3), .ref (ad 4), .int (nI (vN V))])),
   (ad 2, .inl (cA 0, 21, .inl (fun j => nI (vF V j)))),
   (ad 3, .inl (cA 1, 20, .inl (fun j => bI (vO V j)))),
   (ad 4, .inl (cA 1, 20, .inl (fun j => bI (vG V j)))),
   (ad 5, .inl (cA 2, 120, .inl (fun j => nI (gD G j)))),
   (ad 6, .inl (cA 0, 120, .inl (fun j => nI (gO G j)))),
   (ad 7, .inl (cA 0, 120, .inl (fun j => nI (gP G j)))),
   (ad 8, .inl (cA 0, 120, .inl (fun j => nI (gC G j)))),
   (ad 9, .inl (cA 0, 120, .inl (gX G))),
   (ad 10, .inl (cA 0, 120, .inl (gY G))),
   (ad 11, .inl (cA 1, 120, .inl (fun j => bI (kRc K j)))),
   (ad 12, .inl (cA 4, 120, .inr (.inr (.inr (.inr (fun j => some (ad (18 + 4 * j)))))))),
   (ad 13, .inl (cA 4, 120, .inr (.inr (.inr (.inr (fun j => some (ad (20 + 4 * j)))))))),
   (ad 14, pO (ad 15)), (ad 15, pL cA (kNw K)), (ad 16, pO (ad 17)), (ad 17, pL cA (kNh K))] ++ (List.range 480).map (pcell cA ad (kLw K) (kLh K))
theorem lk_map {X : va_W} {f : Nat → Nat × va_E} {N k t : Nat} (hk : k = X.length + t) (ht : t < N) : (X ++ (List.range N).map f)[k]? = some (f t) := by
  subst hk
  rw [List.getElem?_append_right (by omega), Nat.add_sub_cancel_left, List.getElem?_map, List.getElem?_range ht]
  rfl
theorem st_map {X : va_W} {f g : Nat → Nat × va_E} {N k t : Nat} {x : Nat × va_E} (hk : k = X.length + t) (ht : t < N) (hx : g t = x) (hg : ∀ j, j < N → j ≠ t → g j = f j) : (X ++ (List.range N).map f).set k x = X ++ (List.range N).map g := by
  subst hk; subst hx
  rw [List.set_append_right _ _ (by omega), Nat.add_sub_cancel_left]
  congr 1
  apply List.ext_getElem?
  intro j
  by_cases hj : t = j
  · subst hj
    rw [List.getElem?_set_self (by simp [ht]), List.getElem?_map, List.getElem?_range ht]
    rfl
  · rw [List.getElem?_set_ne hj, List.getElem?_map, List.getElem?_map]
    by_cases hN : j < N
    · rw [List.getElem?_range hN]
      show some (f j) = some (g j)
      rw [hg j hN (Ne.symm hj)]
    · rw [List.getElem?_eq_none (by simp; omega)]; rfl
section LK
variable {cA : Nat → ClassId} {ad : Nat → Nat} {V : VS} {G : GS} {K : KS} {p : Nat}
theorem lk_w0 (hp : p < 120) : (wPF cA ad V G K)[18 + 4 * p]? = some (ad (18 + 4 * p), pO (ad (19 + 4 * p))) := by
  refine (lk_map (t := 4 * p) (by rfl) (by omega)).trans ?_
  unfold pcell; rw [if_pos (by omega)]
theorem lk_w1 (hp : p < 120) : (wPF cA ad V G K)[19 + 4 * p]? = some (ad (19 + 4 * p), pL cA (kLw K p)) := by
  refine (lk_map (t := 1 + 4 * p) (by show _ = 18 + _; omega) (by omega)).trans ?_
  unfold pcell; rw [if_neg (by omega), if_pos (by omega), show (1 + 4 * p) / 4 = p by omega, show 18 + (1 + 4 * p) = 19 + 4 * p by omega]
theorem lk_h0 (hp : p < 120) : (wPF cA ad V G K)[20 + 4 * p]? = some (ad (20 + 4 * p), pO (ad (21 + 4 * p))) := by
  refine (lk_map (t := 2 + 4 * p) (by show _ = 18 + _; omega) (by omega)).trans ?_
  unfold pcell; rw [if_neg (by omega), if_neg (by omega), if_pos (by omega), show 18 + (2 + 4 * p) = 20 + 4 * p by omega, show 19 + (2 + 4 * p) = 21 + 4 * p by omega]
theorem lk_h1 (hp : p < 120) : (wPF cA ad V G K)[21 + 4 * p]? = some (ad (21 + 4 * p), pL cA (kLh K p)) := by
  refine (lk_map (t := 3 + 4 * p) (by show _ = 18 + _; omega) (by omega)).trans ?_
  unfold pcell; rw [if_neg (by omega), if_neg (by omega), if_neg (by omega), show (3 + 4 * p) / 4 = p by omega, show 18 + (3 + 4 * p) = 21 + 4 * p by omega]
abbrev K_w (K : KS) (p : Nat) (S : Nat → Bool) : KS := (kKn K, kCh K, kRc K, kNw K, kNh K, va_up (kLw K) p S, kLh K)
abbrev K_h (K : KS) (p : Nat) (S : Nat → Bool) : KS := (kKn K, kCh K, kRc K, kNw K, kNh K, kLw K, va_up (kLh K) p S)
theorem st_w (hp : p < 120) (S : Nat → Bool) : (wPF cA ad V G K).set (19 + 4 * p) (ad (19 + 4 * p), pL cA S) = wPF cA ad V G (K_w K p S) := by
  refine (st_map (g := pcell cA ad (va_up (kLw K) p S) (kLh K)) (t := 1 + 4 * p) (by show _ = 18 + _; omega) (by omega) ?_ ?_).trans rfl
  · unfold pcell; rw [if_neg (by omega), if_pos (by omega), show (1 + 4 * p) / 4 = p by omega, show 18 + (1 + 4 * p) = 19 + 4 * p by omega, va_up_self]
  · intro j hj hne
    unfold pcell
    by_cases h0 : j % 4 = 0
    · rw [if_pos h0, if_pos h0]
    · rw [if_neg h0, if_neg h0]
      by_cases h1 : j % 4 = 1
      · rw [if_pos h1, if_pos h1, va_up_ne _ _ (by omega)]
      · rw [if_neg h1, if_neg h1]
theorem st_h (hp : p < 120) (S : Nat → Bool) : (wPF cA ad V G K).set (21 + 4 * p) (ad (21 + 4 * p), pL cA S) = wPF cA ad V G (K_h K p S) := by
  refine (st_map (g := pcell cA ad (kLw K) (va_up (kLh K) p S)) (t := 3 + 4 * p) (by show _ = 18 + _; omega) (by omega) ?_ ?_).trans rfl
  · unfold pcell; rw [if_neg (by omega), if_neg (by omega), if_neg (by omega), show (3 + 4 * p) / 4 = p by omega, show 18 + (3 + 4 * p) = 21 + 4 * p by omega, va_up_self]
  · intro j hj hne
    unfold pcell
    by_cases h0 : j % 4 = 0
    · rw [if_pos h0, if_pos h0]
    · rw [if_neg h0, if_neg h0]
      by_cases h1 : j % 4 = 1
      · rw [if_pos h1, if_pos h1]
      · rw [if_neg h1, if_neg h1]
        by_cases h2 : j % 4 = 2
        · rw [if_pos h2, if_pos h2]
        · rw [if_neg h2, if_neg h2, va_up_ne _ _ (by omega)]
end LK
/-! the model's world -/
abbrev MS : Type := Nat × (Nat → Nat) × (Nat → Bool) × (Nat → Bool) × Nat × (Nat → Nat) × (Nat → Int32) × (Nat → Int32) × (Nat → Nat) × (Nat → Int32) × (Nat → Int32)
abbrev mN (M : MS) : Nat := M.1
abbrev mP (M : MS) : Nat → Nat := M.2.1
abbrev mO (M : MS) : Nat → Bool := M.2.2.1
abbrev mG (M : MS) : Nat → Bool := M.2.2.2.1
abbrev mK (M : MS) : Nat := M.2.2.2.2.1
abbrev mD (M : MS) : Nat → Nat := M.2.2.2.2.2.1
abbrev mF (M : MS) : Nat → Int32 := M.2.2.2.2.2.2.1
abbrev mR (M : MS) : Nat → Int32 := M.2.2.2.2.2.2.2.1
abbrev mM (M : MS) : Nat → Nat := M.2.2.2.2.2.2.2.2.1
abbrev mX (M : MS) : Nat → Int32 := M.2.2.2.2.2.2.2.2.2.1
abbrev mY (M : MS) : Nat → Int32 := M.2.2.2.2.2.2.2.2.2.2
abbrev TS : Type := (Nat → Bool) × (Nat → Nat) × Nat
abbrev tS (T : TS) : Nat → Bool := T.1
abbrev tL (T : TS) : Nat → Nat := T.2.1
abbrev tH (T : TS) : Nat := T.2.2
def wPM (cA : Nat → ClassId) (bd : Nat → Nat) (M : MS) (T : TS) : va_W :=
  [(bd 0, .inr (3, [.int (nI (mN M)), .ref (bd 1), .ref (bd 2), .ref (bd 3), .int (nI (mK M)), .ref (bd 4), .ref (bd 5), .ref (bd 6), .ref (bd 7), .ref (bd 8), .ref (bd 9), .ref (bd 10), .ref (bd 11), .int (nI (tH T))])),
   (bd 1, .inl (cA 0, 20, .inl (fun j => nI (mP M j)))),
   (bd 2, .inl (cA 1, 20, .inl (fun j => bI (mO M j)))),
   (bd 3, .inl (cA 1, 20, .inl (fun j => bI (mG M j)))),
   (bd 4, .inl (cA 0, 120, .inl (fun j => nI (mD M j)))),
   (bd 5, .inl (cA 0, 120, .inl (mF M))),
   (bd 6, .inl (cA 0, 120, .inl (mR M))),
   (bd 7, .inl (cA 0, 120, .inl (fun j => nI (mM M j)))),
   (bd 8, .inl (cA 0, 120, .inl (mX M))),
   (bd 9, .inl (cA 0, 120, .inl (mY M))),
   (bd 10, .inl (cA 1, 240, .inl (fun j => bI (tS T j)))),
   (bd 11, .inl (cA 0, 240, .inl (fun j => nI (tL T j))))]
/-! small pure rows for the walks -/
def isN (n : Nat) (x : Int32) : Bool := decide (¬ x < 0) && decide (¬ nI n ≤ x)
theorem isN_t {n : Nat} {x : Int32} (hn : n < 2 ^ 31) : isN n x = true ↔ ∃ j : Nat, j < n ∧ x = nI j := by
  unfold isN
  rw [Bool.and_eq_true, decide_eq_true_eq, decide_eq_true_eq]
  constructor
  · rintro ⟨h1, h2⟩
    rcases pk_ix x hn with h | h | h
    · exact absurd h h1
    · exact absurd h h2
    · exact h
  · rintro ⟨j, hj, rfl⟩
    exact ⟨nI_pos (by omega), nI_ge hj hn⟩
theorem isN_nI {n j : Nat} (hn : n < 2 ^ 31) (hj : j < n) : isN n (nI j) = true := (isN_t hn).mpr ⟨j, hj, rfl⟩
theorem upd_nI (f : Nat → Nat) (k x : Nat) : upd (fun j => nI (f j)) k (nI x) = fun j => nI (va_up f k x j) := by
  funext j; unfold upd va_up; split <;> rfl
theorem upd_bI (f : Nat → Bool) (k : Nat) (b : Bool) : upd (fun j => bI (f j)) k (vp_nar .boolean (bI b)) = fun j => bI (va_up f k b j) := by
  rw [bI_vp]; funext j; unfold upd va_up; split <;> rfl
theorem upd_i (f : Nat → Int32) (k : Nat) (x : Int32) : upd f k x = va_up f k x := rfl
theorem nI_byte : ∀ k, k < 128 → vp_nar .byte (nI k) = nI k := by decide +kernel
theorem nI_i2b : ∀ k, k < 128 → (nI k).toInt8.toInt32 = nI k := by decide +kernel
theorem upd_by (f : Nat → Nat) (k : Nat) {x : Nat} (hx : x < 128) : upd (fun j => nI (f j)) k (vp_nar .byte (nI x)) = fun j => nI (va_up f k x j) := by
  rw [nI_byte x hx, upd_nI]
end
section
/-! small methods: the four range tests, Variables.parts, Variables.add -/
set_option maxHeartbeats 4000000 in
set_option maxRecDepth 100000 in
theorem c_PV_is (l : Launch) (D : va_G) (cA : Nat → ClassId) (ad : Nat → Nat) (V : VS) (G : GS) (K : KS) (x : Int32)  : CtI l y_PV_is b_PV_is 2 (some .boolean) (rmZ) D cA [.ref (ad 1), .int x] (wPF cA ad V G K) (fun r u => r = bI (isN (vN V) x) ∧ u = wPF cA ad V G K) := by
  refine CtI.of (by decide) (Nat.le_of_ble_eq_true rfl) ?_
  intro p e s m below meth c ls C hin hr h hl
  obtain ⟨hx, hb, hml, hown, hts, hK, hlk⟩ := id C
  have hNW := hK.2
  have hl : lv_has ls 2 [(0, .ref (ad 1)), (1, .int x)] := hl
  refine lv_iload_n hx hb d_PV_is_0 rfl (lv_at hl 1 rfl) ?_
  refine lv_if_lt (tgt := 16) hx hb d_PV_is_1 (by decide) (fun c1 => ?_) (fun c1 => ?_)
  · refine lv_iconst (v := 0) hx hb d_PV_is_16 (by decide) ?_
    exact r_zret false C h hr rfl ⟨by unfold isN; rw [decide_eq_false (not_not_intro c1)]; rfl, rfl⟩ d_PV_is_17
  · refine lv_iload_n hx hb d_PV_is_4 rfl (lv_at hl 1 rfl) ?_
    refine lv_aload_n hx hb d_PV_is_5 rfl (lv_at hl 0 rfl) ?_
    refine r_get C h fl_PV_20 1 rfl rfl d_PV_is_6 ?_
    refine lv_icmp_ge (tgt := 16) hx hb d_PV_is_9 (by decide) (fun c2 => ?_) (fun c2 => ?_)
    · refine lv_iconst (v := 0) hx hb d_PV_is_16 (by decide) ?_
      exact r_zret false C h hr rfl ⟨by unfold isN; rw [decide_eq_false (not_not_intro c2), Bool.and_false], rfl⟩ d_PV_is_17
    · refine lv_iconst (v := 1) hx hb d_PV_is_12 (by decide) ?_
      refine lv_goto (tgt := 17) hx hb d_PV_is_13 (by decide) ?_
      exact r_zret true C h hr rfl ⟨by unfold isN; rw [decide_eq_true c1, decide_eq_true c2]; rfl, rfl⟩ d_PV_is_17
set_option maxHeartbeats 4000000 in
set_option maxRecDepth 100000 in
theorem c_PF_isPoint (l : Launch) (D : va_G) (cA : Nat → ClassId) (ad : Nat → Nat) (V : VS) (G : GS) (K : KS) (x : Int32)  : CtI l y_PF_isPoint b_PF_isPoint 2 (some .boolean) (rmZ) D cA [.ref (ad 0), .int x] (wPF cA ad V G K) (fun r u => r = bI (isN (gN G) x) ∧ u = wPF cA ad V G K) := by
  refine CtI.of (by decide) (Nat.le_of_ble_eq_true rfl) ?_
  intro p e s m below meth c ls C hin hr h hl
  obtain ⟨hx, hb, hml, hown, hts, hK, hlk⟩ := id C
  have hNW := hK.2
  have hl : lv_has ls 2 [(0, .ref (ad 0)), (1, .int x)] := hl
  refine lv_iload_n hx hb d_PF_isPoint_0 rfl (lv_at hl 1 rfl) ?_
  refine lv_if_lt (tgt := 16) hx hb d_PF_isPoint_1 (by decide) (fun c1 => ?_) (fun c1 => ?_)
  · refine lv_iconst (v := 0) hx hb d_PF_isPoint_16 (by decide) ?_
    exact r_zret false C h hr rfl ⟨by unfold isN; rw [decide_eq_false (not_not_intro c1)]; rfl, rfl⟩ d_PF_isPoint_17
  · refine lv_iload_n hx hb d_PF_isPoint_4 rfl (lv_at hl 1 rfl) ?_
    refine lv_aload_n hx hb d_PF_isPoint_5 rfl (lv_at hl 0 rfl) ?_
    refine r_get C h fl_PF_76 0 rfl rfl d_PF_isPoint_6 ?_
    refine lv_icmp_ge (tgt := 16) hx hb d_PF_isPoint_9 (by decide) (fun c2 => ?_) (fun c2 => ?_)
    · refine lv_iconst (v := 0) hx hb d_PF_isPoint_16 (by decide) ?_
      exact r_zret false C h hr rfl ⟨by unfold isN; rw [decide_eq_false (not_not_intro c2), Bool.and_false], rfl⟩ d_PF_isPoint_17
    · refine lv_iconst (v := 1) hx hb d_PF_isPoint_12 (by decide) ?_
      refine lv_goto (tgt := 17) hx hb d_PF_isPoint_13 (by decide) ?_
      exact r_zret true C h hr rfl ⟨by unfold isN; rw [decide_eq_true c1, decide_eq_true c2]; rfl, rfl⟩ d_PF_isPoint_17
set_option maxHeartbeats 4000000 in
set_option maxRecDepth 100000 in
theorem c_PM_isVariable (l : Launch) (D : va_G) (cA : Nat → ClassId) (bd : Nat → Nat) (M : MS) (T : TS) (x : Int32)  : CtI l y_PM_isVariable b_PM_isVariable 2 (some .boolean) (rmZ) D cA [.ref (bd 0), .int x] (wPM cA bd M T) (fun r u => r = bI (isN (mN M) x) ∧ u = wPM cA bd M T) := by
  refine CtI.of (by decide) (Nat.le_of_ble_eq_true rfl) ?_
  intro p e s m below meth c ls C hin hr h hl
  obtain ⟨hx, hb, hml, hown, hts, hK, hlk⟩ := id C
  have hNW := hK.2
  have hl : lv_has ls 2 [(0, .ref (bd 0)), (1, .int x)] := hl
  refine lv_iload_n hx hb d_PM_isVariable_0 rfl (lv_at hl 1 rfl) ?_
  refine lv_if_lt (tgt := 16) hx hb d_PM_isVariable_1 (by decide) (fun c1 => ?_) (fun c1 => ?_)
  · refine lv_iconst (v := 0) hx hb d_PM_isVariable_16 (by decide) ?_
    exact r_zret false C h hr rfl ⟨by unfold isN; rw [decide_eq_false (not_not_intro c1)]; rfl, rfl⟩ d_PM_isVariable_17
  · refine lv_iload_n hx hb d_PM_isVariable_4 rfl (lv_at hl 1 rfl) ?_
    refine lv_aload_n hx hb d_PM_isVariable_5 rfl (lv_at hl 0 rfl) ?_
    refine r_get C h fl_PM_44 0 rfl rfl d_PM_isVariable_6 ?_
    refine lv_icmp_ge (tgt := 16) hx hb d_PM_isVariable_9 (by decide) (fun c2 => ?_) (fun c2 => ?_)
    · refine lv_iconst (v := 0) hx hb d_PM_isVariable_16 (by decide) ?_
      exact r_zret false C h hr rfl ⟨by unfold isN; rw [decide_eq_false (not_not_intro c2), Bool.and_false], rfl⟩ d_PM_isVariable_17
    · refine lv_iconst (v := 1) hx hb d_PM_isVariable_12 (by decide) ?_
      refine lv_goto (tgt := 17) hx hb d_PM_isVariable_13 (by decide) ?_
      exact r_zret true C h hr rfl ⟨by unfold isN; rw [decide_eq_true c1, decide_eq_true c2]; rfl, rfl⟩ d_PM_isVariable_17
set_option maxHeartbeats 4000000 in
set_option maxRecDepth 100000 in
theorem c_PM_isPoint (l : Launch) (D : va_G) (cA : Nat → ClassId) (bd : Nat → Nat) (M : MS) (T : TS) (x : Int32)  : CtI l y_PM_isPoint b_PM_isPoint 2 (some .boolean) (rmZ) D cA [.ref (bd 0), .int x] (wPM cA bd M T) (fun r u => r = bI (isN (mK M) x) ∧ u = wPM cA bd M T) := by
  refine CtI.of (by decide) (Nat.le_of_ble_eq_true rfl) ?_
  intro p e s m below meth c ls C hin hr h hl
  obtain ⟨hx, hb, hml, hown, hts, hK, hlk⟩ := id C
  have hNW := hK.2
  have hl : lv_has ls 2 [(0, .ref (bd 0)), (1, .int x)] := hl
  refine lv_iload_n hx hb d_PM_isPoint_0 rfl (lv_at hl 1 rfl) ?_
  refine lv_if_lt (tgt := 16) hx hb d_PM_isPoint_1 (by decide) (fun c1 => ?_) (fun c1 => ?_)
  · refine lv_iconst (v := 0) hx hb d_PM_isPoint_16 (by decide) ?_
    exact r_zret false C h hr rfl ⟨by unfold isN; rw [decide_eq_false (not_not_intro c1)]; rfl, rfl⟩ d_PM_isPoint_17
  · refine lv_iload_n hx hb d_PM_isPoint_4 rfl (lv_at hl 1 rfl) ?_
    refine lv_aload_n hx hb d_PM_isPoint_5 rfl (lv_at hl 0 rfl) ?_
    refine r_get C h fl_PM_48 0 rfl rfl d_PM_isPoint_6 ?_
    refine lv_icmp_ge (tgt := 16) hx hb d_PM_isPoint_9 (by decide) (fun c2 => ?_) (fun c2 => ?_)
    · refine lv_iconst (v := 0) hx hb d_PM_isPoint_16 (by decide) ?_
      exact r_zret false C h hr rfl ⟨by unfold isN; rw [decide_eq_false (not_not_intro c2), Bool.and_false], rfl⟩ d_PM_isPoint_17
    · refine lv_iconst (v := 1) hx hb d_PM_isPoint_12 (by decide) ?_
      refine lv_goto (tgt := 17) hx hb d_PM_isPoint_13 (by decide) ?_
      exact r_zret true C h hr rfl ⟨by unfold isN; rw [decide_eq_true c1, decide_eq_true c2]; rfl, rfl⟩ d_PM_isPoint_17
set_option maxHeartbeats 4000000 in
set_option maxRecDepth 100000 in
theorem c_PV_parts (l : Launch) (D : va_G) (cA : Nat → ClassId) (ad : Nat → Nat) (V : VS) (G : GS) (K : KS) (j : Nat) (hj : j < 20) (hm : vF V j ≤ vF V (j + 1)) : CtI l y_PV_parts b_PV_parts 2 (some .int) (rmZ) D cA [.ref (ad 1), .int (nI j)] (wPF cA ad V G K) (fun r u => r = nI (vF V (j + 1) - vF V j) ∧ u = wPF cA ad V G K) := by
  refine CtI.of (by decide) (Nat.le_of_ble_eq_true rfl) ?_
  intro p e s m below meth c ls C hin hr h hl
  obtain ⟨hx, hb, hml, hown, hts, hK, hlk⟩ := id C
  have hNW := hK.2
  have hl : lv_has ls 2 [(0, .ref (ad 1)), (1, .int (nI j))] := hl
  refine lv_aload_n hx hb d_PV_parts_0 rfl (lv_at hl 0 rfl) ?_
  refine r_get C h fl_PV_9 1 rfl rfl d_PV_parts_1 ?_
  refine lv_iload_n hx hb d_PV_parts_4 rfl (lv_at hl 1 rfl) ?_
  refine lv_iconst (v := 1) hx hb d_PV_parts_5 (by decide) ?_
  refine lv_iadd hx hb d_PV_parts_6 ?_
  refine w_i (nI (j + 1)) (nI_1 j) ?_
  refine r_iald C h 2 rfl (j + 1) (by omega) (rfl) (by decide) (v := nI (vF V (j + 1))) (rfl) d_PV_parts_7 ?_
  refine lv_aload_n hx hb d_PV_parts_8 rfl (lv_at hl 0 rfl) ?_
  refine r_get C h fl_PV_9 1 rfl rfl d_PV_parts_9 ?_
  refine lv_iload_n hx hb d_PV_parts_12 rfl (lv_at hl 1 rfl) ?_
  refine r_iald C h 2 rfl (j) (by omega) (rfl) (by decide) (v := nI (vF V j)) (rfl) d_PV_parts_13 ?_
  refine lv_isub hx hb d_PV_parts_14 ?_
  refine w_i (nI (vF V (j + 1) - vF V j)) (pk_sub hm) ?_
  exact r_iret C h hr ⟨rfl, rfl⟩ d_PV_parts_15
/-- what 'variable' takes -/
def okV (nv : Nat) (x : Int32) (k : Nat) : Prop := x = nI k ∧ 1 ≤ k ∧ k ≤ 8 ∧ nv < 20
def noV (nv : Nat) (x : Int32) : Prop := x < 1 ∨ nI 8 < x ∨ nv = 20
theorem okV_of {nv : Nat} {x : Int32} (hv : nv ≤ 20) (h1 : ¬ x < 1) (h2 : ¬ nI 8 < x) (h3 : ¬ nI nv = nI 20) : ∃ k, okV nv x k := by
  have h0 : ¬ x < 0 := fun q => h1 (Int32.lt_iff_toInt_lt.mpr (by have := Int32.lt_iff_toInt_lt.mp q; rw [Int32.toInt_zero] at this; rw [show (1 : Int32).toInt = 1 from rfl]; omega))
  obtain ⟨j, hj, rfl⟩ := nI_of h0
  have e1 : ¬ j < 1 := fun q => h1 (nI_lt q (by decide))
  have e2 : ¬ 8 < j := fun q => h2 (nI_lt q hj)
  refine ⟨j, rfl, by omega, by omega, ?_⟩
  rcases Nat.lt_or_ge nv 20 with q | q
  · exact q
  · exact absurd (by rw [show nv = 20 by omega]) h3
set_option maxHeartbeats 4000000 in
set_option maxRecDepth 100000 in
theorem c_PV_add (l : Launch) (D : va_G) (cA : Nat → ClassId) (ad : Nat → Nat) (V : VS) (G : GS) (K : KS) (x : Int32) (b1 b2 : Bool) (hnv : vN V ≤ 20) : CtI l y_PV_add b_PV_add 4 (some .int) (rmZ) D cA [.ref (ad 1), .int x, .int (bI b1), .int (bI b2)] (wPF cA ad V G K) (fun r u => (noV (vN V) x ∧ r = -1 ∧ u = wPF cA ad V G K) ∨ (∃ k, okV (vN V) x k ∧ r = nI (vN V) ∧ u = wPF cA ad (vN V + 1, va_up (vF V) (vN V + 1) (vF V (vN V) + k), va_up (vO V) (vN V) b1, va_up (vG V) (vN V) b2) G K)) := by
  refine CtI.of (by decide) (Nat.le_of_ble_eq_true rfl) ?_
  intro p e s m below meth c ls C hin hr h hl
  obtain ⟨hx, hb, hml, hown, hts, hK, hlk⟩ := id C
  have hNW := hK.2
  have hl : lv_has ls 4 [(0, .ref (ad 1)), (1, .int x), (2, .int (bI b1)), (3, .int (bI b2))] := hl
  refine lv_iload_n hx hb d_PV_add_0 rfl (lv_at hl 1 rfl) ?_
  refine lv_iconst (v := 1) hx hb d_PV_add_1 (by decide) ?_
  refine lv_icmp_lt (tgt := 20) hx hb d_PV_add_2 (by decide) (fun c1 => ?_) (fun c1 => ?_)
  · refine lv_iconst (v := (-1)) hx hb d_PV_add_20 (by decide) ?_
    exact r_iret C h hr (Or.inl ⟨Or.inl c1, rfl, rfl⟩) d_PV_add_21
  · refine lv_iload_n hx hb d_PV_add_5 rfl (lv_at hl 1 rfl) ?_
    refine lv_bipush (v := nI 8) hx hb d_PV_add_6 (by decide) ?_
    refine lv_icmp_gt (tgt := 20) hx hb d_PV_add_8 (by decide) (fun c2 => ?_) (fun c2 => ?_)
    · refine lv_iconst (v := (-1)) hx hb d_PV_add_20 (by decide) ?_
      exact r_iret C h hr (Or.inl ⟨Or.inr (Or.inl c2), rfl, rfl⟩) d_PV_add_21
    · refine lv_aload_n hx hb d_PV_add_11 rfl (lv_at hl 0 rfl) ?_
      refine r_get C h fl_PV_20 1 rfl rfl d_PV_add_12 ?_
      refine lv_bipush (v := nI 20) hx hb d_PV_add_15 (by decide) ?_
      refine lv_icmp_ne (tgt := 22) hx hb d_PV_add_17 (by decide) (fun c3 => ?_) (fun c3 => ?_)
      · obtain ⟨k, rfl, k1, k8, hlt⟩ := okV_of hnv c1 c2 c3
        refine lv_aload_n hx hb d_PV_add_22 rfl (lv_at hl 0 rfl) ?_
        refine r_get C h fl_PV_13 1 rfl rfl d_PV_add_23 ?_
        refine lv_aload_n hx hb d_PV_add_26 rfl (lv_at hl 0 rfl) ?_
        refine r_get C h fl_PV_20 1 rfl rfl d_PV_add_27 ?_
        refine lv_iload_n hx hb d_PV_add_30 rfl (lv_at hl 2 rfl) ?_
        refine r_zast C h 3 rfl (vN V) (hlt) (rfl) (by decide) (g := fun j => bI (va_up (vO V) (vN V) b1 j)) (upd_bI _ _ _) (ws' := wPF cA ad (vN V, vF V, va_up (vO V) (vN V) b1, vG V) G K) (rfl) d_PV_add_31 (fun H locs h => ?_)
        refine lv_aload_n hx hb d_PV_add_32 rfl (lv_at hl 0 rfl) ?_
        refine r_get C h fl_PV_17 1 rfl rfl d_PV_add_33 ?_
        refine lv_aload_n hx hb d_PV_add_36 rfl (lv_at hl 0 rfl) ?_
        refine r_get C h fl_PV_20 1 rfl rfl d_PV_add_37 ?_
        refine lv_iload_n hx hb d_PV_add_40 rfl (lv_at hl 3 rfl) ?_
        refine r_zast C h 4 rfl (vN V) (hlt) (rfl) (by decide) (g := fun j => bI (va_up (vG V) (vN V) b2 j)) (upd_bI _ _ _) (ws' := wPF cA ad (vN V, vF V, va_up (vO V) (vN V) b1, va_up (vG V) (vN V) b2) G K) (rfl) d_PV_add_41 (fun H locs h => ?_)
        refine lv_aload_n hx hb d_PV_add_42 rfl (lv_at hl 0 rfl) ?_
        refine r_get C h fl_PV_9 1 rfl rfl d_PV_add_43 ?_
        refine lv_aload_n hx hb d_PV_add_46 rfl (lv_at hl 0 rfl) ?_
        refine r_get C h fl_PV_20 1 rfl rfl d_PV_add_47 ?_
        refine lv_iconst (v := 1) hx hb d_PV_add_50 (by decide) ?_
        refine lv_iadd hx hb d_PV_add_51 ?_
        refine w_i (nI (vN V + 1)) (nI_1 _) ?_
        refine lv_aload_n hx hb d_PV_add_52 rfl (lv_at hl 0 rfl) ?_
        refine r_get C h fl_PV_9 1 rfl rfl d_PV_add_53 ?_
        refine lv_aload_n hx hb d_PV_add_56 rfl (lv_at hl 0 rfl) ?_
        refine r_get C h fl_PV_20 1 rfl rfl d_PV_add_57 ?_
        refine r_iald C h 2 rfl (vN V) (by omega) (rfl) (by decide) (v := nI (vF V (vN V))) (rfl) d_PV_add_60 ?_
        refine lv_iload_n hx hb d_PV_add_61 rfl (lv_at hl 1 rfl) ?_
        refine lv_iadd hx hb d_PV_add_62 ?_
        refine w_i (nI (vF V (vN V) + k)) (nI_add _ _) ?_
        refine r_iast C h 2 rfl (vN V + 1) (by omega) (rfl) (by decide) (g := fun j => nI (va_up (vF V) (vN V + 1) (vF V (vN V) + k) j)) (upd_nI _ _ _) (ws' := wPF cA ad (vN V, va_up (vF V) (vN V + 1) (vF V (vN V) + k), va_up (vO V) (vN V) b1, va_up (vG V) (vN V) b2) G K) (rfl) d_PV_add_63 (fun H locs h => ?_)
        refine lv_aload_n hx hb d_PV_add_64 rfl (lv_at hl 0 rfl) ?_
        refine lv_dup hx hb d_PV_add_65 rfl ?_
        refine r_get C h fl_PV_20 1 rfl rfl d_PV_add_66 ?_
        refine lv_iconst (v := 1) hx hb d_PV_add_69 (by decide) ?_
        refine lv_iadd hx hb d_PV_add_70 ?_
        refine w_i (nI (vN V + 1)) (nI_1 _) ?_
        refine r_put C h fl_PV_20 1 rfl rfl (rfl) (rfl) (Nat.le_of_ble_eq_true rfl) (ws' := wPF cA ad (vN V + 1, va_up (vF V) (vN V + 1) (vF V (vN V) + k), va_up (vO V) (vN V) b1, va_up (vG V) (vN V) b2) G K) (rfl) d_PV_add_71 (fun H locs h => ?_)
        refine lv_aload_n hx hb d_PV_add_74 rfl (lv_at hl 0 rfl) ?_
        refine r_get C h fl_PV_20 1 rfl rfl d_PV_add_75 ?_
        refine lv_iconst (v := 1) hx hb d_PV_add_78 (by decide) ?_
        refine lv_isub hx hb d_PV_add_79 ?_
        refine w_i (nI (vN V)) (nI_pred _) ?_
        exact r_iret C h hr (Or.inr ⟨k, ⟨rfl, k1, k8, hlt⟩, rfl, rfl⟩) d_PV_add_80
      · refine lv_iconst (v := (-1)) hx hb d_PV_add_20 (by decide) ?_
        exact r_iret C h hr (Or.inl ⟨Or.inr (Or.inr ((nI_eq (by omega) (by decide)).mp c3)), rfl, rfl⟩) d_PV_add_21
end
section
/-! PartsFlow: variable, may, point, next, clear -/
abbrev K_kn (K : KS) (b : Bool) : KS := (b, kCh K, kRc K, kNw K, kNh K, kLw K, kLh K)
abbrev K_ch (K : KS) (b : Bool) : KS := (kKn K, b, kRc K, kNw K, kNh K, kLw K, kLh K)
theorem nI_nm1 {j : Nat} (h : j < 2 ^ 31) : ¬ nI j = -1 := by
  intro q
  have a := nI_toInt h
  rw [q, show (-1 : Int32).toInt = -1 from rfl] at a
  omega
def VIn (V : VS) : Prop := vN V ≤ 20 ∧ vF V 0 = 0 ∧ ∀ j, j < vN V → vF V j + 1 ≤ vF V (j + 1) ∧ vF V (j + 1) ≤ vF V j + 8
/-- what 'point' takes: the numbers that it means -/
def okQ (nv : Nat) (pt : Nat → Nat) (d v pa mn : Int32) (dn vn a b : Nat) : Prop :=
  (d = 0 ∧ dn = 0 ∧ vn = 0 ∧ a = 0 ∧ b = 0) ∨ (d = nI dn ∧ 1 ≤ dn ∧ dn ≤ 5 ∧ v = nI vn ∧ vn < nv ∧ ((3 < dn ∧ a = 0 ∧ b = pt vn) ∨ (dn ≤ 3 ∧ pa = nI a ∧ mn = nI b ∧ 1 ≤ b ∧ a + b ≤ pt vn)))
def okP (nv : Nat) (pt : Nat → Nat) (d v pa mn : Int32) : Prop := ∃ dn vn a b, okQ nv pt d v pa mn dn vn a b
theorem d_of {d : Int32} (h0 : ¬ d = 0) (h1 : ¬ d < 0) (h2 : ¬ nI 5 < d) : ∃ dn, d = nI dn ∧ 1 ≤ dn ∧ dn ≤ 5 := by
  obtain ⟨j, hj, rfl⟩ := nI_of h1
  have e1 : ¬ 5 < j := fun q => h2 (nI_lt q hj)
  have e2 : j ≠ 0 := fun q => h0 (by subst q; exact nI_0)
  exact ⟨j, rfl, by omega, by omega⟩
section OKP
variable {nv : Nat} {pt : Nat → Nat} {d v pa mn : Int32}
theorem okP_0 : okP nv pt 0 v pa mn := ⟨0, 0, 0, 0, Or.inl ⟨rfl, rfl, rfl, rfl, rfl⟩⟩
theorem okP_neg (h : d < 0) : ¬ okP nv pt d v pa mn := by
  rintro ⟨dn, vn, a, b, ⟨rfl, -⟩ | ⟨rfl, h1, h2, -⟩⟩
  · exact absurd h (by decide)
  · exact nI_pos (by omega) h
theorem okP_big (h : nI 5 < d) : ¬ okP nv pt d v pa mn := by
  rintro ⟨dn, vn, a, b, ⟨rfl, -⟩ | ⟨rfl, h1, h2, -⟩⟩
  · exact absurd h (by decide)
  · exact nI_nlt h2 (by decide) h
theorem okP_v (hn : nv < 2 ^ 31) (h0 : ¬ d = 0) (h : isN nv v = false) : ¬ okP nv pt d v pa mn := by
  rintro ⟨dn, vn, a, b, ⟨rfl, -⟩ | ⟨rfl, h1, h2, rfl, h3, -⟩⟩
  · exact h0 rfl
  · rw [isN_nI hn h3] at h; cases h
theorem okP_in {dn vn : Nat} (hn : nv < 2 ^ 31) (h1 : 1 ≤ dn) (h5 : dn ≤ 5) (h3 : vn < nv) : okP nv pt (nI dn) (nI vn) pa mn ↔ 3 < dn ∨ ∃ a b, pa = nI a ∧ mn = nI b ∧ 1 ≤ b ∧ a + b ≤ pt vn := by
  constructor
  · rintro ⟨dn', vn', a, b, ⟨e, -⟩ | ⟨e, g1, g2, e2, g3, g4⟩⟩
    · exact absurd e (nI_ne0 (by omega) (by omega))
    · have e' := (nI_eq (by omega) (by omega)).mp e
      have e2' := (nI_eq (by omega) (by omega)).mp e2
      subst e'; subst e2'
      rcases g4 with ⟨g, -, -⟩ | ⟨g, k1, k2, k3, k4⟩
      · exact Or.inl g
      · exact Or.inr ⟨a, b, k1, k2, k3, k4⟩
  · intro h
    by_cases hd : 3 < dn
    · exact ⟨dn, vn, 0, pt vn, Or.inr ⟨rfl, h1, h5, rfl, h3, Or.inl ⟨hd, rfl, rfl⟩⟩⟩
    · rcases h with h | ⟨a, b, k⟩
      · exact absurd h hd
      · exact ⟨dn, vn, a, b, Or.inr ⟨rfl, h1, h5, rfl, h3, Or.inr ⟨by omega, k⟩⟩⟩
end OKP

set_option maxHeartbeats 4000000 in
set_option maxRecDepth 100000 in
theorem c_PF_variable (l : Launch) (D : va_G) (cA : Nat → ClassId) (ad : Nat → Nat) (V : VS) (G : GS) (K : KS) (x : Int32) (b1 b2 : Bool) (hnv : vN V ≤ 20) : CtI l y_PF_variable b_PF_variable 5 (some .int) ({ frames := 1, cells := 0, slots := 0, locals := 23 }) D cA [.ref (ad 0), .int x, .int (bI b1), .int (bI b2)] (wPF cA ad V G K) (fun r u => (noV (vN V) x ∧ r = -1 ∧ u = wPF cA ad V G K) ∨ (∃ k, okV (vN V) x k ∧ r = nI (vN V) ∧ u = wPF cA ad (vN V + 1, va_up (vF V) (vN V + 1) (vF V (vN V) + k), va_up (vO V) (vN V) b1, va_up (vG V) (vN V) b2) G (K_kn K false))) := by
  refine CtI.of (by decide) (Nat.le_of_ble_eq_true rfl) ?_
  intro p e s m below meth c ls C hin hr h hl
  obtain ⟨hx, hb, hml, hown, hts, hK, hlk⟩ := id C
  have hNW := hK.2
  have hl : lv_has ls 5 [(0, .ref (ad 0)), (1, .int x), (2, .int (bI b1)), (3, .int (bI b2))] := hl
  refine lv_aload_n hx hb d_PF_variable_0 rfl (lv_at hl 0 rfl) ?_
  refine r_get C h fl_PF_10 0 rfl rfl d_PF_variable_1 ?_
  refine lv_iload_n hx hb d_PF_variable_4 rfl (lv_at hl 1 rfl) ?_
  refine lv_iload_n hx hb d_PF_variable_5 rfl (lv_at hl 2 rfl) ?_
  refine lv_iload_n hx hb d_PF_variable_6 rfl (lv_at hl 3 rfl) ?_
  refine r_calli (As := [.int x, .int (bI b1), .int (bI b2)]) (rest := []) C h cv_PF_57 (c_PV_add l D cA ad V G K x b1 b2 hnv) 1 rfl rfl rfl rfl hl.1 rfl (Nat.le_of_ble_eq_true rfl) rfl rfl ⟨Nat.le_of_ble_eq_true rfl, Nat.le_of_ble_eq_true rfl⟩ ⟨Nat.le_of_ble_eq_true rfl, Nat.le_of_ble_eq_true rfl⟩ d_PF_variable_7 (fun r u H locs hq h => ?_)
  rcases hq with ⟨hno, rfl, rfl⟩ | ⟨k, hok, rfl, rfl⟩
  · refine lv_istore (lv' := [(4, .int (-1)), (0, .ref (ad 0)), (1, .int x), (2, .int (bI b1)), (3, .int (bI b2))]) hx hb d_PF_variable_10 hl (by decide) rfl (fun ls hl => ?_)
    refine lv_aload_n hx hb d_PF_variable_12 rfl (lv_at hl 1 rfl) ?_
    refine lv_aload_n hx hb d_PF_variable_13 rfl (lv_at hl 1 rfl) ?_
    refine r_get C h fl_PF_61 0 rfl rfl d_PF_variable_14 ?_
    refine w_join 31 [.ref (ad 0)] (fun v => v = bI (kKn K)) (fun hj => ?_) (fun v hv => ?_)
    · refine lv_if_eq (tgt := 30) hx hb d_PF_variable_17 (by decide) (fun c1 => ?_) (fun c1 => ?_)
      · refine lv_iconst (v := 0) hx hb d_PF_variable_30 (by decide) ?_
        exact hj 0 c1.symm
      · refine lv_iload hx hb d_PF_variable_20 (lv_at hl 0 rfl) ?_
        refine lv_iconst (v := (-1)) hx hb d_PF_variable_22 (by decide) ?_
        refine lv_icmp_ne (tgt := 30) hx hb d_PF_variable_23 (by decide) (fun q => absurd (rfl) q) (fun _ => ?_)
        refine lv_iconst (v := 1) hx hb d_PF_variable_26 (by decide) ?_
        refine lv_goto (tgt := 31) hx hb d_PF_variable_27 (by decide) ?_
        exact hj 1 (by rw [bI_n0.mp c1]; rfl)
    · subst hv
      refine r_put C h fl_PF_61 0 rfl rfl (bI_nar _) (bI_fit _) (Nat.le_of_ble_eq_true rfl) (ws' := wPF cA ad V G K) (rfl) d_PF_variable_31 (fun H locs h => ?_)
      refine lv_iload hx hb d_PF_variable_34 (lv_at hl 0 rfl) ?_
      exact r_iret C h hr (Or.inl ⟨hno, rfl, rfl⟩) d_PF_variable_36
  · refine lv_istore (lv' := [(4, .int (nI (vN V))), (0, .ref (ad 0)), (1, .int x), (2, .int (bI b1)), (3, .int (bI b2))]) hx hb d_PF_variable_10 hl (by decide) rfl (fun ls hl => ?_)
    refine lv_aload_n hx hb d_PF_variable_12 rfl (lv_at hl 1 rfl) ?_
    refine lv_aload_n hx hb d_PF_variable_13 rfl (lv_at hl 1 rfl) ?_
    refine r_get C h fl_PF_61 0 rfl rfl d_PF_variable_14 ?_
    refine w_join 31 [.ref (ad 0)] (fun v => v = bI false) (fun hj => ?_) (fun v hv => ?_)
    · refine lv_if_eq (tgt := 30) hx hb d_PF_variable_17 (by decide) (fun c1 => ?_) (fun c1 => ?_)
      · refine lv_iconst (v := 0) hx hb d_PF_variable_30 (by decide) ?_
        exact hj 0 rfl
      · refine lv_iload hx hb d_PF_variable_20 (lv_at hl 0 rfl) ?_
        refine lv_iconst (v := (-1)) hx hb d_PF_variable_22 (by decide) ?_
        refine lv_icmp_ne (tgt := 30) hx hb d_PF_variable_23 (by decide) (fun _ => ?_) (fun q => absurd q (nI_nm1 (by have := hok.2.2.2; omega)))
        refine lv_iconst (v := 0) hx hb d_PF_variable_30 (by decide) ?_
        exact hj 0 rfl
    · subst hv
      refine r_put C h fl_PF_61 0 rfl rfl (bI_nar _) (bI_fit _) (Nat.le_of_ble_eq_true rfl) (ws' := wPF cA ad (vN V + 1, va_up (vF V) (vN V + 1) (vF V (vN V) + k), va_up (vO V) (vN V) b1, va_up (vG V) (vN V) b2) G (K_kn K false)) (rfl) d_PF_variable_31 (fun H locs h => ?_)
      refine lv_iload hx hb d_PF_variable_34 (lv_at hl 0 rfl) ?_
      exact r_iret C h hr (Or.inr ⟨k, hok, rfl, rfl⟩) d_PF_variable_36
set_option maxHeartbeats 4000000 in
set_option maxRecDepth 100000 in
theorem c_PF_may (l : Launch) (D : va_G) (cA : Nat → ClassId) (ad : Nat → Nat) (V : VS) (G : GS) (K : KS) (d v pa mn : Int32) (hV : VIn V) : CtI l y_PF_may b_PF_may 5 (some .boolean) ({ frames := 1, cells := 0, slots := 0, locals := 21 }) D cA [.ref (ad 0), .int d, .int v, .int pa, .int mn] (wPF cA ad V G K) (fun r u => ∃ b : Bool, r = bI b ∧ (b = true ↔ okP (vN V) (fun j => vF V (j + 1) - vF V j) d v pa mn) ∧ u = wPF cA ad V G K) := by
  refine CtI.of (by decide) (Nat.le_of_ble_eq_true rfl) ?_
  intro p e s m below meth c ls C hin hr h hl
  obtain ⟨hx, hb, hml, hown, hts, hK, hlk⟩ := id C
  have hNW := hK.2
  have hl : lv_has ls 5 [(0, .ref (ad 0)), (1, .int d), (2, .int v), (3, .int pa), (4, .int mn)] := hl
  have hV20 := hV.1
  refine lv_iload_n hx hb d_PF_may_0 rfl (lv_at hl 1 rfl) ?_
  refine lv_if_ne (tgt := 6) hx hb d_PF_may_1 (by decide) (fun c0 => ?_) (fun c0 => ?_)
  · refine lv_iload_n hx hb d_PF_may_6 rfl (lv_at hl 1 rfl) ?_
    refine lv_if_lt (tgt := 26) hx hb d_PF_may_7 (by decide) (fun c1 => ?_) (fun c1 => ?_)
    · refine lv_iconst (v := 0) hx hb d_PF_may_26 (by decide) ?_
      exact r_zret false C h hr rfl ⟨false, rfl, ⟨fun q => (by cases q), fun q => absurd q (okP_neg c1)⟩, rfl⟩ d_PF_may_27
    · refine lv_iload_n hx hb d_PF_may_10 rfl (lv_at hl 1 rfl) ?_
      refine lv_iconst (v := nI 5) hx hb d_PF_may_11 (by decide) ?_
      refine lv_icmp_gt (tgt := 26) hx hb d_PF_may_12 (by decide) (fun c2 => ?_) (fun c2 => ?_)
      · refine lv_iconst (v := 0) hx hb d_PF_may_26 (by decide) ?_
        exact r_zret false C h hr rfl ⟨false, rfl, ⟨fun q => (by cases q), fun q => absurd q (okP_big c2)⟩, rfl⟩ d_PF_may_27
      · refine lv_aload_n hx hb d_PF_may_15 rfl (lv_at hl 0 rfl) ?_
        refine r_get C h fl_PF_10 0 rfl rfl d_PF_may_16 ?_
        refine lv_iload_n hx hb d_PF_may_19 rfl (lv_at hl 2 rfl) ?_
        refine r_calli (As := [.int v]) (rest := []) C h cv_PF_65 (c_PV_is l D cA ad V G K v) 1 rfl rfl rfl rfl hl.1 rfl (Nat.le_of_ble_eq_true rfl) rfl rfl ⟨Nat.le_of_ble_eq_true rfl, Nat.le_of_ble_eq_true rfl⟩ ⟨Nat.le_of_ble_eq_true rfl, Nat.le_of_ble_eq_true rfl⟩ d_PF_may_20 (fun r u H locs hq h => ?_)
        obtain ⟨rfl, rfl⟩ := hq
        refine lv_if_ne (tgt := 28) hx hb d_PF_may_23 (by decide) (fun c3 => ?_) (fun c3 => ?_)
        · obtain ⟨vn, hvn, rfl⟩ := (isN_t (by omega)).mp (bI_n0.mp c3)
          obtain ⟨dn, rfl, hd1, hd5⟩ := d_of c0 c1 c2
          have hok := okP_in (pt := (fun j => vF V (j + 1) - vF V j)) (pa := pa) (mn := mn) (show vN V < 2 ^ 31 by omega) hd1 hd5 hvn
          have hmo := hV.2.2 vn hvn
          refine lv_iload_n hx hb d_PF_may_28 rfl (lv_at hl 1 rfl) ?_
          refine lv_iconst (v := nI 3) hx hb d_PF_may_29 (by decide) ?_
          refine lv_icmp_gt (tgt := 69) hx hb d_PF_may_30 (by decide) (fun c4 => ?_) (fun c4 => ?_)
          · refine lv_iconst (v := 1) hx hb d_PF_may_69 (by decide) ?_
            refine lv_goto (tgt := 74) hx hb d_PF_may_70 (by decide) ?_
            exact r_zret true C h hr rfl ⟨true, rfl, ⟨fun _ => hok.mpr (Or.inl ((nI_ltI (by omega) (by omega)).mp c4)), fun _ => rfl⟩, rfl⟩ d_PF_may_74
          · have hd3 : ¬ 3 < dn := fun q => c4 (nI_lt q (by omega))
            refine lv_iload_n hx hb d_PF_may_33 rfl (lv_at hl 3 rfl) ?_
            refine lv_if_lt (tgt := 73) hx hb d_PF_may_34 (by decide) (fun c5 => ?_) (fun c5 => ?_)
            · refine lv_iconst (v := 0) hx hb d_PF_may_73 (by decide) ?_
              refine r_zret false C h hr rfl ⟨false, rfl, ⟨fun q => (by cases q), fun q => ?_⟩, rfl⟩ d_PF_may_74
              rcases hok.mp q with q | ⟨a, b, rfl, rfl, q1, q2⟩
              · exact absurd q hd3
              · exact absurd c5 (nI_pos (by omega))
            · refine lv_iload hx hb d_PF_may_37 (lv_at hl 4 rfl) ?_
              refine lv_if_le (tgt := 73) hx hb d_PF_may_39 (by decide) (fun c6 => ?_) (fun c6 => ?_)
              · refine lv_iconst (v := 0) hx hb d_PF_may_73 (by decide) ?_
                refine r_zret false C h hr rfl ⟨false, rfl, ⟨fun q => (by cases q), fun q => ?_⟩, rfl⟩ d_PF_may_74
                rcases hok.mp q with q | ⟨a, b, rfl, rfl, q1, q2⟩
                · exact absurd q hd3
                · exact absurd c6 (nI_nle (by omega) (by omega))
              · refine lv_iload_n hx hb d_PF_may_42 rfl (lv_at hl 3 rfl) ?_
                refine lv_aload_n hx hb d_PF_may_43 rfl (lv_at hl 0 rfl) ?_
                refine r_get C h fl_PF_10 0 rfl rfl d_PF_may_44 ?_
                refine lv_iload_n hx hb d_PF_may_47 rfl (lv_at hl 2 rfl) ?_
                refine r_calli (As := [.int (nI vn)]) (rest := [.int pa]) C h cv_PF_69 (c_PV_parts l D cA ad V G K vn (by omega) (by omega)) 1 rfl rfl rfl rfl hl.1 rfl (Nat.le_of_ble_eq_true rfl) rfl rfl ⟨Nat.le_of_ble_eq_true rfl, Nat.le_of_ble_eq_true rfl⟩ ⟨Nat.le_of_ble_eq_true rfl, Nat.le_of_ble_eq_true rfl⟩ d_PF_may_48 (fun r u H locs hq h => ?_)
                obtain ⟨rfl, rfl⟩ := hq
                refine lv_icmp_ge (tgt := 73) hx hb d_PF_may_51 (by decide) (fun c7 => ?_) (fun c7 => ?_)
                · refine lv_iconst (v := 0) hx hb d_PF_may_73 (by decide) ?_
                  refine r_zret false C h hr rfl ⟨false, rfl, ⟨fun q => (by cases q), fun q => ?_⟩, rfl⟩ d_PF_may_74
                  rcases hok.mp q with q | ⟨a, b, rfl, rfl, q1, q2⟩
                  · exact absurd q hd3
                  · exact absurd c7 (nI_ge (by omega) (by omega))
                · obtain ⟨a, ha, rfl⟩ := nI_of c5
                  have ha2 : a < vF V (vn + 1) - vF V vn := by rcases Nat.lt_or_ge a (vF V (vn + 1) - vF V vn) with q | q; exact q; exact absurd (nI_le q (by omega)) c7
                  refine lv_iload hx hb d_PF_may_54 (lv_at hl 4 rfl) ?_
                  refine lv_aload_n hx hb d_PF_may_56 rfl (lv_at hl 0 rfl) ?_
                  refine r_get C h fl_PF_10 0 rfl rfl d_PF_may_57 ?_
                  refine lv_iload_n hx hb d_PF_may_60 rfl (lv_at hl 2 rfl) ?_
                  refine r_calli (As := [.int (nI vn)]) (rest := [.int mn]) C h cv_PF_69 (c_PV_parts l D cA ad V G K vn (by omega) (by omega)) 1 rfl rfl rfl rfl hl.1 rfl (Nat.le_of_ble_eq_true rfl) rfl rfl ⟨Nat.le_of_ble_eq_true rfl, Nat.le_of_ble_eq_true rfl⟩ ⟨Nat.le_of_ble_eq_true rfl, Nat.le_of_ble_eq_true rfl⟩ d_PF_may_61 (fun r u H locs hq h => ?_)
                  obtain ⟨rfl, rfl⟩ := hq
                  refine lv_iload_n hx hb d_PF_may_64 rfl (lv_at hl 3 rfl) ?_
                  refine lv_isub hx hb d_PF_may_65 ?_
                  refine w_i (nI (vF V (vn + 1) - vF V vn - a)) (pk_sub (by omega)) ?_
                  refine lv_icmp_gt (tgt := 73) hx hb d_PF_may_66 (by decide) (fun c8 => ?_) (fun c8 => ?_)
                  · refine lv_iconst (v := 0) hx hb d_PF_may_73 (by decide) ?_
                    refine r_zret false C h hr rfl ⟨false, rfl, ⟨fun q => (by cases q), fun q => ?_⟩, rfl⟩ d_PF_may_74
                    rcases hok.mp q with q | ⟨a2, b, q0, rfl, q1, q2⟩
                    · exact absurd q hd3
                    · have e2 := (nI_eq ha (by omega)).mp q0
                      clear q
                      subst e2
                      have q3 : b ≤ vF V (vn + 1) - vF V vn - a := Nat.le_sub_of_add_le (by rw [Nat.add_comm]; exact q2)
                      exact absurd c8 (nI_nlt q3 (by omega))
                  · have hm0 : ¬ mn < 0 := fun q => c6 (Int32.le_of_lt q)
                    obtain ⟨b, hb2, rfl⟩ := nI_of hm0
                    have hb1 : 1 ≤ b := by rcases Nat.eq_zero_or_pos b with q | q; (subst q; exact absurd (by decide) c6); exact q
                    have hb3 : b ≤ vF V (vn + 1) - vF V vn - a := by rcases Nat.lt_or_ge (vF V (vn + 1) - vF V vn - a) b with q | q; exact absurd (nI_lt q hb2) c8; exact q
                    refine lv_iconst (v := 1) hx hb d_PF_may_69 (by decide) ?_
                    refine lv_goto (tgt := 74) hx hb d_PF_may_70 (by decide) ?_
                    exact r_zret true C h hr rfl ⟨true, rfl, ⟨fun _ => hok.mpr (Or.inr ⟨a, b, rfl, rfl, hb1, by omega⟩), fun _ => rfl⟩, rfl⟩ d_PF_may_74
        · refine lv_iconst (v := 0) hx hb d_PF_may_26 (by decide) ?_
          exact r_zret false C h hr rfl ⟨false, rfl, ⟨fun q => (by cases q), fun q => absurd q (okP_v (by omega) c0 (bI_0.mp c3))⟩, rfl⟩ d_PF_may_27
  · refine lv_iconst (v := 1) hx hb d_PF_may_4 (by decide) ?_
    exact r_zret true C h hr rfl ⟨true, rfl, ⟨fun _ => by rw [c0]; exact okP_0, fun _ => rfl⟩, rfl⟩ d_PF_may_5
set_option maxHeartbeats 4000000 in
set_option maxRecDepth 100000 in
theorem c_PF_point (l : Launch) (D : va_G) (cA : Nat → ClassId) (ad : Nat → Nat) (V : VS) (G : GS) (K : KS) (d v pa mn : Int32) (hV : VIn V) (hn : gN G ≤ 120) : CtI l y_PF_point b_PF_point 6 (some .int) ({ frames := 2, cells := 0, slots := 0, locals := 45 }) D cA [.ref (ad 0), .int d, .int v, .int pa, .int mn] (wPF cA ad V G K) (fun r u => (¬ (okP (vN V) (fun j => vF V (j + 1) - vF V j) d v pa mn ∧ gN G < 120) ∧ r = -1 ∧ u = wPF cA ad V G K) ∨ (∃ dn vn a b, okQ (vN V) (fun j => vF V (j + 1) - vF V j) d v pa mn dn vn a b ∧ gN G < 120 ∧ r = nI (gN G) ∧ u = wPF cA ad V (gN G + 1, va_up (gD G) (gN G) dn, va_up (gO G) (gN G) vn, va_up (gP G) (gN G) a, va_up (gC G) (gN G) b, va_up (gX G) (gN G) (nI (gN G + 1)), va_up (gY G) (gN G) (-1)) (K_kn K false))) := by
  refine CtI.of (by decide) (Nat.le_of_ble_eq_true rfl) ?_
  intro p e s m below meth c ls C hin hr h hl
  obtain ⟨hx, hb, hml, hown, hts, hK, hlk⟩ := id C
  have hNW := hK.2
  have hl : lv_has ls 6 [(0, .ref (ad 0)), (1, .int d), (2, .int v), (3, .int pa), (4, .int mn)] := hl
  have hV20 := hV.1
  refine lv_aload_n hx hb d_PF_point_0 rfl (lv_at hl 0 rfl) ?_
  refine lv_iload_n hx hb d_PF_point_1 rfl (lv_at hl 1 rfl) ?_
  refine lv_iload_n hx hb d_PF_point_2 rfl (lv_at hl 2 rfl) ?_
  refine lv_iload_n hx hb d_PF_point_3 rfl (lv_at hl 3 rfl) ?_
  refine lv_iload hx hb d_PF_point_4 (lv_at hl 4 rfl) ?_
  refine r_calli (As := [.int d, .int v, .int pa, .int mn]) (rest := []) C h cv_PF_72 (c_PF_may l D cA ad V G K d v pa mn hV) 0 rfl rfl rfl rfl hl.1 rfl (Nat.le_of_ble_eq_true rfl) rfl rfl ⟨Nat.le_of_ble_eq_true rfl, Nat.le_of_ble_eq_true rfl⟩ ⟨Nat.le_of_ble_eq_true rfl, Nat.le_of_ble_eq_true rfl⟩ d_PF_point_6 (fun r u H locs hq h => ?_)
  obtain ⟨t, rfl, ht, rfl⟩ := hq
  refine lv_if_eq (tgt := 21) hx hb d_PF_point_9 (by decide) (fun c1 => ?_) (fun c1 => ?_)
  · refine lv_iconst (v := (-1)) hx hb d_PF_point_21 (by decide) ?_
    exact r_iret C h hr (Or.inl ⟨fun q => absurd (ht.mpr q.1) (by rw [bI_0.mp c1]; decide), rfl, rfl⟩) d_PF_point_22
  · refine lv_aload_n hx hb d_PF_point_12 rfl (lv_at hl 0 rfl) ?_
    refine r_get C h fl_PF_76 0 rfl rfl d_PF_point_13 ?_
    refine lv_bipush (v := nI 120) hx hb d_PF_point_16 (by decide) ?_
    refine lv_icmp_ne (tgt := 23) hx hb d_PF_point_18 (by decide) (fun c2 => ?_) (fun c2 => ?_)
    · have hlt : gN G < 120 := by rcases Nat.lt_or_ge (gN G) 120 with q | q; exact q; exact absurd (by rw [show gN G = 120 by omega]) c2
      obtain ⟨dn, vn, a, b, hq⟩ := ht.mp (bI_n0.mp c1)
      have hq0 := hq
      refine lv_aload_n hx hb d_PF_point_23 rfl (lv_at hl 0 rfl) ?_
      refine r_get C h fl_PF_76 0 rfl rfl d_PF_point_24 ?_
      refine lv_istore (lv' := [(5, .int (nI (gN G))), (0, .ref (ad 0)), (1, .int d), (2, .int v), (3, .int pa), (4, .int mn)]) hx hb d_PF_point_27 hl (by decide) rfl (fun ls hl => ?_)
      rcases hq with ⟨rfl, rfl, rfl, rfl, rfl⟩ | ⟨rfl, hd1, hd5, rfl, hvn, ⟨hd3, rfl, rfl⟩ | ⟨hd3, rfl, rfl, hb1, hab⟩⟩
      · try clear hq
        refine lv_aload_n hx hb d_PF_point_29 rfl (lv_at hl 1 rfl) ?_
        refine r_get C h fl_PF_16 0 rfl rfl d_PF_point_30 ?_
        refine lv_iload hx hb d_PF_point_33 (lv_at hl 0 rfl) ?_
        refine lv_iload_n hx hb d_PF_point_35 rfl (lv_at hl 2 rfl) ?_
        refine lv_i2b hx hb d_PF_point_36 rfl ?_
        refine w_i (nI 0) (by decide) ?_
        refine r_bast C h 5 rfl (gN G) (hlt) (rfl) (by decide) (g := fun j => nI (va_up (gD G) (gN G) 0 j)) (upd_by _ _ (by omega)) (ws' := wPF cA ad V (gN G, va_up (gD G) (gN G) 0, gO G, gP G, gC G, gX G, gY G) K) (rfl) d_PF_point_37 (fun H locs h => ?_)
        refine lv_aload_n hx hb d_PF_point_38 rfl (lv_at hl 1 rfl) ?_
        refine r_get C h fl_PF_20 0 rfl rfl d_PF_point_39 ?_
        refine lv_iload hx hb d_PF_point_42 (lv_at hl 0 rfl) ?_
        refine lv_iload_n hx hb d_PF_point_44 rfl (lv_at hl 2 rfl) ?_
        refine lv_if_ne (tgt := 52) hx hb d_PF_point_45 (by decide) (fun q => absurd (rfl) q) (fun _ => ?_)
        refine lv_iconst (v := nI 0) hx hb d_PF_point_48 (by decide) ?_
        refine lv_goto (tgt := 53) hx hb d_PF_point_49 (by decide) ?_
        refine r_iast C h 6 rfl (gN G) (hlt) (rfl) (by decide) (g := fun j => nI (va_up (gO G) (gN G) 0 j)) (upd_nI _ _ _) (ws' := wPF cA ad V (gN G, va_up (gD G) (gN G) 0, va_up (gO G) (gN G) 0, gP G, gC G, gX G, gY G) K) (rfl) d_PF_point_53 (fun H locs h => ?_)
        refine lv_aload_n hx hb d_PF_point_54 rfl (lv_at hl 1 rfl) ?_
        refine r_get C h fl_PF_24 0 rfl rfl d_PF_point_55 ?_
        refine lv_iload hx hb d_PF_point_58 (lv_at hl 0 rfl) ?_
        refine lv_iload_n hx hb d_PF_point_60 rfl (lv_at hl 2 rfl) ?_
        refine lv_iconst (v := nI 3) hx hb d_PF_point_61 (by decide) ?_
        refine lv_icmp_gt (tgt := 69) hx hb d_PF_point_62 (by decide) (fun q => absurd q (by decide)) (fun _ => ?_)
        refine lv_iload_n hx hb d_PF_point_65 rfl (lv_at hl 2 rfl) ?_
        refine lv_if_ne (tgt := 73) hx hb d_PF_point_66 (by decide) (fun q => absurd (rfl) q) (fun _ => ?_)
        refine lv_iconst (v := nI 0) hx hb d_PF_point_69 (by decide) ?_
        refine lv_goto (tgt := 74) hx hb d_PF_point_70 (by decide) ?_
        refine r_iast C h 7 rfl (gN G) (hlt) (rfl) (by decide) (g := fun j => nI (va_up (gP G) (gN G) 0 j)) (upd_nI _ _ _) (ws' := wPF cA ad V (gN G, va_up (gD G) (gN G) 0, va_up (gO G) (gN G) 0, va_up (gP G) (gN G) 0, gC G, gX G, gY G) K) (rfl) d_PF_point_74 (fun H locs h => ?_)
        refine lv_aload_n hx hb d_PF_point_75 rfl (lv_at hl 1 rfl) ?_
        refine r_get C h fl_PF_27 0 rfl rfl d_PF_point_76 ?_
        refine lv_iload hx hb d_PF_point_79 (lv_at hl 0 rfl) ?_
        refine lv_iload_n hx hb d_PF_point_81 rfl (lv_at hl 2 rfl) ?_
        refine lv_if_ne (tgt := 89) hx hb d_PF_point_82 (by decide) (fun q => absurd (rfl) q) (fun _ => ?_)
        refine lv_iconst (v := nI 0) hx hb d_PF_point_85 (by decide) ?_
        refine lv_goto (tgt := 107) hx hb d_PF_point_86 (by decide) ?_
        refine r_iast C h 8 rfl (gN G) (hlt) (rfl) (by decide) (g := fun j => nI (va_up (gC G) (gN G) 0 j)) (upd_nI _ _ _) (ws' := wPF cA ad V (gN G, va_up (gD G) (gN G) 0, va_up (gO G) (gN G) 0, va_up (gP G) (gN G) 0, va_up (gC G) (gN G) 0, gX G, gY G) K) (rfl) d_PF_point_107 (fun H locs h => ?_)
        refine lv_aload_n hx hb d_PF_point_108 rfl (lv_at hl 1 rfl) ?_
        refine r_get C h fl_PF_30 0 rfl rfl d_PF_point_109 ?_
        refine lv_iload hx hb d_PF_point_112 (lv_at hl 0 rfl) ?_
        refine lv_iload hx hb d_PF_point_114 (lv_at hl 0 rfl) ?_
        refine lv_iconst (v := 1) hx hb d_PF_point_116 (by decide) ?_
        refine lv_iadd hx hb d_PF_point_117 ?_
        refine w_i (nI (gN G + 1)) (nI_1 _) ?_
        refine r_iast C h 9 rfl (gN G) (hlt) (rfl) (by decide) (g := va_up (gX G) (gN G) (nI (gN G + 1))) (upd_i _ _ _) (ws' := wPF cA ad V (gN G, va_up (gD G) (gN G) 0, va_up (gO G) (gN G) 0, va_up (gP G) (gN G) 0, va_up (gC G) (gN G) 0, va_up (gX G) (gN G) (nI (gN G + 1)), gY G) K) (rfl) d_PF_point_118 (fun H locs h => ?_)
        refine lv_aload_n hx hb d_PF_point_119 rfl (lv_at hl 1 rfl) ?_
        refine r_get C h fl_PF_33 0 rfl rfl d_PF_point_120 ?_
        refine lv_iload hx hb d_PF_point_123 (lv_at hl 0 rfl) ?_
        refine lv_iconst (v := (-1)) hx hb d_PF_point_125 (by decide) ?_
        refine r_iast C h 10 rfl (gN G) (hlt) (rfl) (by decide) (g := va_up (gY G) (gN G) (-1)) (upd_i _ _ _) (ws' := wPF cA ad V (gN G, va_up (gD G) (gN G) 0, va_up (gO G) (gN G) 0, va_up (gP G) (gN G) 0, va_up (gC G) (gN G) 0, va_up (gX G) (gN G) (nI (gN G + 1)), va_up (gY G) (gN G) (-1)) K) (rfl) d_PF_point_126 (fun H locs h => ?_)
        refine lv_aload_n hx hb d_PF_point_127 rfl (lv_at hl 1 rfl) ?_
        refine lv_dup hx hb d_PF_point_128 rfl ?_
        refine r_get C h fl_PF_76 0 rfl rfl d_PF_point_129 ?_
        refine lv_iconst (v := 1) hx hb d_PF_point_132 (by decide) ?_
        refine lv_iadd hx hb d_PF_point_133 ?_
        refine w_i (nI (gN G + 1)) (nI_1 _) ?_
        refine r_put C h fl_PF_76 0 rfl rfl (rfl) (rfl) (Nat.le_of_ble_eq_true rfl) (ws' := wPF cA ad V (gN G + 1, va_up (gD G) (gN G) 0, va_up (gO G) (gN G) 0, va_up (gP G) (gN G) 0, va_up (gC G) (gN G) 0, va_up (gX G) (gN G) (nI (gN G + 1)), va_up (gY G) (gN G) (-1)) K) (rfl) d_PF_point_134 (fun H locs h => ?_)
        refine lv_aload_n hx hb d_PF_point_137 rfl (lv_at hl 1 rfl) ?_
        refine lv_iconst (v := bI false) hx hb d_PF_point_138 (by decide) ?_
        refine r_put C h fl_PF_61 0 rfl rfl (bI_nar _) (bI_fit _) (Nat.le_of_ble_eq_true rfl) (ws' := wPF cA ad V (gN G + 1, va_up (gD G) (gN G) 0, va_up (gO G) (gN G) 0, va_up (gP G) (gN G) 0, va_up (gC G) (gN G) 0, va_up (gX G) (gN G) (nI (gN G + 1)), va_up (gY G) (gN G) (-1)) (K_kn K false)) (rfl) d_PF_point_139 (fun H locs h => ?_)
        refine lv_iload hx hb d_PF_point_142 (lv_at hl 0 rfl) ?_
        exact r_iret C h hr (Or.inr ⟨0, 0, 0, 0, hq0, hlt, rfl, rfl⟩) d_PF_point_144
      · have hne : ¬ nI dn = 0 := nI_ne0 (by omega) (by omega)
        have hgt : nI 3 < nI dn := nI_lt hd3 (by omega)
        refine lv_aload_n hx hb d_PF_point_29 rfl (lv_at hl 1 rfl) ?_
        refine r_get C h fl_PF_16 0 rfl rfl d_PF_point_30 ?_
        refine lv_iload hx hb d_PF_point_33 (lv_at hl 0 rfl) ?_
        refine lv_iload_n hx hb d_PF_point_35 rfl (lv_at hl 2 rfl) ?_
        refine lv_i2b hx hb d_PF_point_36 rfl ?_
        refine w_i (nI dn) (nI_i2b _ (by omega)) ?_
        refine r_bast C h 5 rfl (gN G) (hlt) (rfl) (by decide) (g := fun j => nI (va_up (gD G) (gN G) dn j)) (upd_by _ _ (by omega)) (ws' := wPF cA ad V (gN G, va_up (gD G) (gN G) dn, gO G, gP G, gC G, gX G, gY G) K) (rfl) d_PF_point_37 (fun H locs h => ?_)
        refine lv_aload_n hx hb d_PF_point_38 rfl (lv_at hl 1 rfl) ?_
        refine r_get C h fl_PF_20 0 rfl rfl d_PF_point_39 ?_
        refine lv_iload hx hb d_PF_point_42 (lv_at hl 0 rfl) ?_
        refine lv_iload_n hx hb d_PF_point_44 rfl (lv_at hl 2 rfl) ?_
        refine lv_if_ne (tgt := 52) hx hb d_PF_point_45 (by decide) (fun _ => ?_) (fun q => absurd q (hne))
        refine lv_iload_n hx hb d_PF_point_52 rfl (lv_at hl 3 rfl) ?_
        refine r_iast C h 6 rfl (gN G) (hlt) (rfl) (by decide) (g := fun j => nI (va_up (gO G) (gN G) vn j)) (upd_nI _ _ _) (ws' := wPF cA ad V (gN G, va_up (gD G) (gN G) dn, va_up (gO G) (gN G) vn, gP G, gC G, gX G, gY G) K) (rfl) d_PF_point_53 (fun H locs h => ?_)
        refine lv_aload_n hx hb d_PF_point_54 rfl (lv_at hl 1 rfl) ?_
        refine r_get C h fl_PF_24 0 rfl rfl d_PF_point_55 ?_
        refine lv_iload hx hb d_PF_point_58 (lv_at hl 0 rfl) ?_
        refine lv_iload_n hx hb d_PF_point_60 rfl (lv_at hl 2 rfl) ?_
        refine lv_iconst (v := nI 3) hx hb d_PF_point_61 (by decide) ?_
        refine lv_icmp_gt (tgt := 69) hx hb d_PF_point_62 (by decide) (fun _ => ?_) (fun q => absurd (hgt) q)
        refine lv_iconst (v := nI 0) hx hb d_PF_point_69 (by decide) ?_
        refine lv_goto (tgt := 74) hx hb d_PF_point_70 (by decide) ?_
        refine r_iast C h 7 rfl (gN G) (hlt) (rfl) (by decide) (g := fun j => nI (va_up (gP G) (gN G) 0 j)) (upd_nI _ _ _) (ws' := wPF cA ad V (gN G, va_up (gD G) (gN G) dn, va_up (gO G) (gN G) vn, va_up (gP G) (gN G) 0, gC G, gX G, gY G) K) (rfl) d_PF_point_74 (fun H locs h => ?_)
        refine lv_aload_n hx hb d_PF_point_75 rfl (lv_at hl 1 rfl) ?_
        refine r_get C h fl_PF_27 0 rfl rfl d_PF_point_76 ?_
        refine lv_iload hx hb d_PF_point_79 (lv_at hl 0 rfl) ?_
        refine lv_iload_n hx hb d_PF_point_81 rfl (lv_at hl 2 rfl) ?_
        refine lv_if_ne (tgt := 89) hx hb d_PF_point_82 (by decide) (fun _ => ?_) (fun q => absurd q (hne))
        refine lv_iload_n hx hb d_PF_point_89 rfl (lv_at hl 2 rfl) ?_
        refine lv_iconst (v := nI 3) hx hb d_PF_point_90 (by decide) ?_
        refine lv_icmp_le (tgt := 105) hx hb d_PF_point_91 (by decide) (fun q => absurd q (fun q => nI_ge hd3 (by omega) q)) (fun _ => ?_)
        refine lv_aload_n hx hb d_PF_point_94 rfl (lv_at hl 1 rfl) ?_
        refine r_get C h fl_PF_10 0 rfl rfl d_PF_point_95 ?_
        refine lv_iload_n hx hb d_PF_point_98 rfl (lv_at hl 3 rfl) ?_
        refine r_calli (As := [.int (nI vn)]) (rest := [.int (nI (gN G)), .ref (ad 8)]) C h cv_PF_69 (c_PV_parts l D cA ad V _ K vn (by omega) (by have := hV.2.2 vn hvn; omega)) 1 rfl rfl rfl rfl hl.1 rfl (Nat.le_of_ble_eq_true rfl) rfl rfl ⟨Nat.le_of_ble_eq_true rfl, Nat.le_of_ble_eq_true rfl⟩ ⟨Nat.le_of_ble_eq_true rfl, Nat.le_of_ble_eq_true rfl⟩ d_PF_point_99 (fun r u H locs hq h => ?_)
        obtain ⟨rfl, rfl⟩ := hq
        refine lv_goto (tgt := 107) hx hb d_PF_point_102 (by decide) ?_
        refine r_iast C h 8 rfl (gN G) (hlt) (rfl) (by decide) (g := fun j => nI (va_up (gC G) (gN G) (vF V (vn + 1) - vF V vn) j)) (upd_nI _ _ _) (ws' := wPF cA ad V (gN G, va_up (gD G) (gN G) dn, va_up (gO G) (gN G) vn, va_up (gP G) (gN G) 0, va_up (gC G) (gN G) (vF V (vn + 1) - vF V vn), gX G, gY G) K) (rfl) d_PF_point_107 (fun H locs h => ?_)
        refine lv_aload_n hx hb d_PF_point_108 rfl (lv_at hl 1 rfl) ?_
        refine r_get C h fl_PF_30 0 rfl rfl d_PF_point_109 ?_
        refine lv_iload hx hb d_PF_point_112 (lv_at hl 0 rfl) ?_
        refine lv_iload hx hb d_PF_point_114 (lv_at hl 0 rfl) ?_
        refine lv_iconst (v := 1) hx hb d_PF_point_116 (by decide) ?_
        refine lv_iadd hx hb d_PF_point_117 ?_
        refine w_i (nI (gN G + 1)) (nI_1 _) ?_
        refine r_iast C h 9 rfl (gN G) (hlt) (rfl) (by decide) (g := va_up (gX G) (gN G) (nI (gN G + 1))) (upd_i _ _ _) (ws' := wPF cA ad V (gN G, va_up (gD G) (gN G) dn, va_up (gO G) (gN G) vn, va_up (gP G) (gN G) 0, va_up (gC G) (gN G) (vF V (vn + 1) - vF V vn), va_up (gX G) (gN G) (nI (gN G + 1)), gY G) K) (rfl) d_PF_point_118 (fun H locs h => ?_)
        refine lv_aload_n hx hb d_PF_point_119 rfl (lv_at hl 1 rfl) ?_
        refine r_get C h fl_PF_33 0 rfl rfl d_PF_point_120 ?_
        refine lv_iload hx hb d_PF_point_123 (lv_at hl 0 rfl) ?_
        refine lv_iconst (v := (-1)) hx hb d_PF_point_125 (by decide) ?_
        refine r_iast C h 10 rfl (gN G) (hlt) (rfl) (by decide) (g := va_up (gY G) (gN G) (-1)) (upd_i _ _ _) (ws' := wPF cA ad V (gN G, va_up (gD G) (gN G) dn, va_up (gO G) (gN G) vn, va_up (gP G) (gN G) 0, va_up (gC G) (gN G) (vF V (vn + 1) - vF V vn), va_up (gX G) (gN G) (nI (gN G + 1)), va_up (gY G) (gN G) (-1)) K) (rfl) d_PF_point_126 (fun H locs h => ?_)
        refine lv_aload_n hx hb d_PF_point_127 rfl (lv_at hl 1 rfl) ?_
        refine lv_dup hx hb d_PF_point_128 rfl ?_
        refine r_get C h fl_PF_76 0 rfl rfl d_PF_point_129 ?_
        refine lv_iconst (v := 1) hx hb d_PF_point_132 (by decide) ?_
        refine lv_iadd hx hb d_PF_point_133 ?_
        refine w_i (nI (gN G + 1)) (nI_1 _) ?_
        refine r_put C h fl_PF_76 0 rfl rfl (rfl) (rfl) (Nat.le_of_ble_eq_true rfl) (ws' := wPF cA ad V (gN G + 1, va_up (gD G) (gN G) dn, va_up (gO G) (gN G) vn, va_up (gP G) (gN G) 0, va_up (gC G) (gN G) (vF V (vn + 1) - vF V vn), va_up (gX G) (gN G) (nI (gN G + 1)), va_up (gY G) (gN G) (-1)) K) (rfl) d_PF_point_134 (fun H locs h => ?_)
        refine lv_aload_n hx hb d_PF_point_137 rfl (lv_at hl 1 rfl) ?_
        refine lv_iconst (v := bI false) hx hb d_PF_point_138 (by decide) ?_
        refine r_put C h fl_PF_61 0 rfl rfl (bI_nar _) (bI_fit _) (Nat.le_of_ble_eq_true rfl) (ws' := wPF cA ad V (gN G + 1, va_up (gD G) (gN G) dn, va_up (gO G) (gN G) vn, va_up (gP G) (gN G) 0, va_up (gC G) (gN G) (vF V (vn + 1) - vF V vn), va_up (gX G) (gN G) (nI (gN G + 1)), va_up (gY G) (gN G) (-1)) (K_kn K false)) (rfl) d_PF_point_139 (fun H locs h => ?_)
        refine lv_iload hx hb d_PF_point_142 (lv_at hl 0 rfl) ?_
        exact r_iret C h hr (Or.inr ⟨dn, vn, 0, (vF V (vn + 1) - vF V vn), hq0, hlt, rfl, rfl⟩) d_PF_point_144
      · have hne : ¬ nI dn = 0 := nI_ne0 (by omega) (by omega)
        have hgt : ¬ nI 3 < nI dn := nI_nlt hd3 (by omega)
        refine lv_aload_n hx hb d_PF_point_29 rfl (lv_at hl 1 rfl) ?_
        refine r_get C h fl_PF_16 0 rfl rfl d_PF_point_30 ?_
        refine lv_iload hx hb d_PF_point_33 (lv_at hl 0 rfl) ?_
        refine lv_iload_n hx hb d_PF_point_35 rfl (lv_at hl 2 rfl) ?_
        refine lv_i2b hx hb d_PF_point_36 rfl ?_
        refine w_i (nI dn) (nI_i2b _ (by omega)) ?_
        refine r_bast C h 5 rfl (gN G) (hlt) (rfl) (by decide) (g := fun j => nI (va_up (gD G) (gN G) dn j)) (upd_by _ _ (by omega)) (ws' := wPF cA ad V (gN G, va_up (gD G) (gN G) dn, gO G, gP G, gC G, gX G, gY G) K) (rfl) d_PF_point_37 (fun H locs h => ?_)
        refine lv_aload_n hx hb d_PF_point_38 rfl (lv_at hl 1 rfl) ?_
        refine r_get C h fl_PF_20 0 rfl rfl d_PF_point_39 ?_
        refine lv_iload hx hb d_PF_point_42 (lv_at hl 0 rfl) ?_
        refine lv_iload_n hx hb d_PF_point_44 rfl (lv_at hl 2 rfl) ?_
        refine lv_if_ne (tgt := 52) hx hb d_PF_point_45 (by decide) (fun _ => ?_) (fun q => absurd q (hne))
        refine lv_iload_n hx hb d_PF_point_52 rfl (lv_at hl 3 rfl) ?_
        refine r_iast C h 6 rfl (gN G) (hlt) (rfl) (by decide) (g := fun j => nI (va_up (gO G) (gN G) vn j)) (upd_nI _ _ _) (ws' := wPF cA ad V (gN G, va_up (gD G) (gN G) dn, va_up (gO G) (gN G) vn, gP G, gC G, gX G, gY G) K) (rfl) d_PF_point_53 (fun H locs h => ?_)
        refine lv_aload_n hx hb d_PF_point_54 rfl (lv_at hl 1 rfl) ?_
        refine r_get C h fl_PF_24 0 rfl rfl d_PF_point_55 ?_
        refine lv_iload hx hb d_PF_point_58 (lv_at hl 0 rfl) ?_
        refine lv_iload_n hx hb d_PF_point_60 rfl (lv_at hl 2 rfl) ?_
        refine lv_iconst (v := nI 3) hx hb d_PF_point_61 (by decide) ?_
        refine lv_icmp_gt (tgt := 69) hx hb d_PF_point_62 (by decide) (fun q => absurd q (hgt)) (fun _ => ?_)
        refine lv_iload_n hx hb d_PF_point_65 rfl (lv_at hl 2 rfl) ?_
        refine lv_if_ne (tgt := 73) hx hb d_PF_point_66 (by decide) (fun _ => ?_) (fun q => absurd q (hne))
        refine lv_iload_n hx hb d_PF_point_73 rfl (lv_at hl 4 rfl) ?_
        refine r_iast C h 7 rfl (gN G) (hlt) (rfl) (by decide) (g := fun j => nI (va_up (gP G) (gN G) a j)) (upd_nI _ _ _) (ws' := wPF cA ad V (gN G, va_up (gD G) (gN G) dn, va_up (gO G) (gN G) vn, va_up (gP G) (gN G) a, gC G, gX G, gY G) K) (rfl) d_PF_point_74 (fun H locs h => ?_)
        refine lv_aload_n hx hb d_PF_point_75 rfl (lv_at hl 1 rfl) ?_
        refine r_get C h fl_PF_27 0 rfl rfl d_PF_point_76 ?_
        refine lv_iload hx hb d_PF_point_79 (lv_at hl 0 rfl) ?_
        refine lv_iload_n hx hb d_PF_point_81 rfl (lv_at hl 2 rfl) ?_
        refine lv_if_ne (tgt := 89) hx hb d_PF_point_82 (by decide) (fun _ => ?_) (fun q => absurd q (hne))
        refine lv_iload_n hx hb d_PF_point_89 rfl (lv_at hl 2 rfl) ?_
        refine lv_iconst (v := nI 3) hx hb d_PF_point_90 (by decide) ?_
        refine lv_icmp_le (tgt := 105) hx hb d_PF_point_91 (by decide) (fun _ => ?_) (fun q => absurd (nI_le hd3 (by omega)) q)
        refine lv_iload hx hb d_PF_point_105 (lv_at hl 5 rfl) ?_
        refine r_iast C h 8 rfl (gN G) (hlt) (rfl) (by decide) (g := fun j => nI (va_up (gC G) (gN G) b j)) (upd_nI _ _ _) (ws' := wPF cA ad V (gN G, va_up (gD G) (gN G) dn, va_up (gO G) (gN G) vn, va_up (gP G) (gN G) a, va_up (gC G) (gN G) b, gX G, gY G) K) (rfl) d_PF_point_107 (fun H locs h => ?_)
        refine lv_aload_n hx hb d_PF_point_108 rfl (lv_at hl 1 rfl) ?_
        refine r_get C h fl_PF_30 0 rfl rfl d_PF_point_109 ?_
        refine lv_iload hx hb d_PF_point_112 (lv_at hl 0 rfl) ?_
        refine lv_iload hx hb d_PF_point_114 (lv_at hl 0 rfl) ?_
        refine lv_iconst (v := 1) hx hb d_PF_point_116 (by decide) ?_
        refine lv_iadd hx hb d_PF_point_117 ?_
        refine w_i (nI (gN G + 1)) (nI_1 _) ?_
        refine r_iast C h 9 rfl (gN G) (hlt) (rfl) (by decide) (g := va_up (gX G) (gN G) (nI (gN G + 1))) (upd_i _ _ _) (ws' := wPF cA ad V (gN G, va_up (gD G) (gN G) dn, va_up (gO G) (gN G) vn, va_up (gP G) (gN G) a, va_up (gC G) (gN G) b, va_up (gX G) (gN G) (nI (gN G + 1)), gY G) K) (rfl) d_PF_point_118 (fun H locs h => ?_)
        refine lv_aload_n hx hb d_PF_point_119 rfl (lv_at hl 1 rfl) ?_
        refine r_get C h fl_PF_33 0 rfl rfl d_PF_point_120 ?_
        refine lv_iload hx hb d_PF_point_123 (lv_at hl 0 rfl) ?_
        refine lv_iconst (v := (-1)) hx hb d_PF_point_125 (by decide) ?_
        refine r_iast C h 10 rfl (gN G) (hlt) (rfl) (by decide) (g := va_up (gY G) (gN G) (-1)) (upd_i _ _ _) (ws' := wPF cA ad V (gN G, va_up (gD G) (gN G) dn, va_up (gO G) (gN G) vn, va_up (gP G) (gN G) a, va_up (gC G) (gN G) b, va_up (gX G) (gN G) (nI (gN G + 1)), va_up (gY G) (gN G) (-1)) K) (rfl) d_PF_point_126 (fun H locs h => ?_)
        refine lv_aload_n hx hb d_PF_point_127 rfl (lv_at hl 1 rfl) ?_
        refine lv_dup hx hb d_PF_point_128 rfl ?_
        refine r_get C h fl_PF_76 0 rfl rfl d_PF_point_129 ?_
        refine lv_iconst (v := 1) hx hb d_PF_point_132 (by decide) ?_
        refine lv_iadd hx hb d_PF_point_133 ?_
        refine w_i (nI (gN G + 1)) (nI_1 _) ?_
        refine r_put C h fl_PF_76 0 rfl rfl (rfl) (rfl) (Nat.le_of_ble_eq_true rfl) (ws' := wPF cA ad V (gN G + 1, va_up (gD G) (gN G) dn, va_up (gO G) (gN G) vn, va_up (gP G) (gN G) a, va_up (gC G) (gN G) b, va_up (gX G) (gN G) (nI (gN G + 1)), va_up (gY G) (gN G) (-1)) K) (rfl) d_PF_point_134 (fun H locs h => ?_)
        refine lv_aload_n hx hb d_PF_point_137 rfl (lv_at hl 1 rfl) ?_
        refine lv_iconst (v := bI false) hx hb d_PF_point_138 (by decide) ?_
        refine r_put C h fl_PF_61 0 rfl rfl (bI_nar _) (bI_fit _) (Nat.le_of_ble_eq_true rfl) (ws' := wPF cA ad V (gN G + 1, va_up (gD G) (gN G) dn, va_up (gO G) (gN G) vn, va_up (gP G) (gN G) a, va_up (gC G) (gN G) b, va_up (gX G) (gN G) (nI (gN G + 1)), va_up (gY G) (gN G) (-1)) (K_kn K false)) (rfl) d_PF_point_139 (fun H locs h => ?_)
        refine lv_iload hx hb d_PF_point_142 (lv_at hl 0 rfl) ?_
        exact r_iret C h hr (Or.inr ⟨dn, vn, a, b, hq0, hlt, rfl, rfl⟩) d_PF_point_144
    · refine lv_iconst (v := (-1)) hx hb d_PF_point_21 (by decide) ?_
      exact r_iret C h hr (Or.inl ⟨fun q => absurd ((nI_eq (by omega) (by decide)).mp c2) (by omega), rfl, rfl⟩) d_PF_point_22
def okX (x : Int32) : Prop := ¬ x < -1 ∧ ¬ nI 120 ≤ x
set_option maxHeartbeats 4000000 in
set_option maxRecDepth 100000 in
theorem c_PF_next (l : Launch) (D : va_G) (cA : Nat → ClassId) (ad : Nat → Nat) (V : VS) (G : GS) (K : KS) (q x y : Int32) (hn : gN G ≤ 120) : CtI l y_PF_next b_PF_next 4 (some .boolean) ({ frames := 1, cells := 0, slots := 0, locals := 21 }) D cA [.ref (ad 0), .int q, .int x, .int y] (wPF cA ad V G K) (fun r u => (¬ (isN (gN G) q = true ∧ okX x ∧ okX y) ∧ r = bI false ∧ u = wPF cA ad V G K) ∨ (∃ j, j < gN G ∧ q = nI j ∧ okX x ∧ okX y ∧ r = bI true ∧ u = wPF cA ad V (gN G, gD G, gO G, gP G, gC G, va_up (gX G) j x, va_up (gY G) j y) (K_kn K false))) := by
  refine CtI.of (by decide) (Nat.le_of_ble_eq_true rfl) ?_
  intro p e s m below meth c ls C hin hr h hl
  obtain ⟨hx, hb, hml, hown, hts, hK, hlk⟩ := id C
  have hNW := hK.2
  have hl : lv_has ls 4 [(0, .ref (ad 0)), (1, .int q), (2, .int x), (3, .int y)] := hl
  refine lv_aload_n hx hb d_PF_next_0 rfl (lv_at hl 0 rfl) ?_
  refine lv_iload_n hx hb d_PF_next_1 rfl (lv_at hl 1 rfl) ?_
  refine r_calli (As := [.int q]) (rest := []) C h cv_PF_80 (c_PF_isPoint l D cA ad V G K q) 0 rfl rfl rfl rfl hl.1 rfl (Nat.le_of_ble_eq_true rfl) rfl rfl ⟨Nat.le_of_ble_eq_true rfl, Nat.le_of_ble_eq_true rfl⟩ ⟨Nat.le_of_ble_eq_true rfl, Nat.le_of_ble_eq_true rfl⟩ d_PF_next_2 (fun r u H locs hq h => ?_)
  obtain ⟨rfl, rfl⟩ := hq
  refine lv_if_eq (tgt := 30) hx hb d_PF_next_5 (by decide) (fun c1 => ?_) (fun c1 => ?_)
  · refine lv_iconst (v := 0) hx hb d_PF_next_30 (by decide) ?_
    exact r_zret false C h hr rfl (Or.inl ⟨fun z => absurd z.1 (by rw [bI_0.mp c1]; decide), rfl, rfl⟩) d_PF_next_31
  · refine lv_iload_n hx hb d_PF_next_8 rfl (lv_at hl 2 rfl) ?_
    refine lv_iconst (v := (-1)) hx hb d_PF_next_9 (by decide) ?_
    refine lv_icmp_lt (tgt := 30) hx hb d_PF_next_10 (by decide) (fun c2 => ?_) (fun c2 => ?_)
    · refine lv_iconst (v := 0) hx hb d_PF_next_30 (by decide) ?_
      exact r_zret false C h hr rfl (Or.inl ⟨fun z => absurd c2 z.2.1.1, rfl, rfl⟩) d_PF_next_31
    · refine lv_iload_n hx hb d_PF_next_13 rfl (lv_at hl 3 rfl) ?_
      refine lv_iconst (v := (-1)) hx hb d_PF_next_14 (by decide) ?_
      refine lv_icmp_lt (tgt := 30) hx hb d_PF_next_15 (by decide) (fun c3 => ?_) (fun c3 => ?_)
      · refine lv_iconst (v := 0) hx hb d_PF_next_30 (by decide) ?_
        exact r_zret false C h hr rfl (Or.inl ⟨fun z => absurd c3 z.2.2.1, rfl, rfl⟩) d_PF_next_31
      · refine lv_iload_n hx hb d_PF_next_18 rfl (lv_at hl 2 rfl) ?_
        refine lv_bipush (v := nI 120) hx hb d_PF_next_19 (by decide) ?_
        refine lv_icmp_ge (tgt := 30) hx hb d_PF_next_21 (by decide) (fun c4 => ?_) (fun c4 => ?_)
        · refine lv_iconst (v := 0) hx hb d_PF_next_30 (by decide) ?_
          exact r_zret false C h hr rfl (Or.inl ⟨fun z => absurd c4 z.2.1.2, rfl, rfl⟩) d_PF_next_31
        · refine lv_iload_n hx hb d_PF_next_24 rfl (lv_at hl 3 rfl) ?_
          refine lv_bipush (v := nI 120) hx hb d_PF_next_25 (by decide) ?_
          refine lv_icmp_lt (tgt := 32) hx hb d_PF_next_27 (by decide) (fun c5 => ?_) (fun c5 => ?_)
          · obtain ⟨j, hj, rfl⟩ := (isN_t (by omega)).mp (bI_n0.mp c1)
            refine lv_aload_n hx hb d_PF_next_32 rfl (lv_at hl 0 rfl) ?_
            refine r_get C h fl_PF_30 0 rfl rfl d_PF_next_33 ?_
            refine lv_iload_n hx hb d_PF_next_36 rfl (lv_at hl 1 rfl) ?_
            refine lv_iload_n hx hb d_PF_next_37 rfl (lv_at hl 2 rfl) ?_
            refine r_iast C h 9 rfl (j) (by omega) (rfl) (by decide) (g := va_up (gX G) j x) (upd_i _ _ _) (ws' := wPF cA ad V (gN G, gD G, gO G, gP G, gC G, va_up (gX G) j x, gY G) K) (rfl) d_PF_next_38 (fun H locs h => ?_)
            refine lv_aload_n hx hb d_PF_next_39 rfl (lv_at hl 0 rfl) ?_
            refine r_get C h fl_PF_33 0 rfl rfl d_PF_next_40 ?_
            refine lv_iload_n hx hb d_PF_next_43 rfl (lv_at hl 1 rfl) ?_
            refine lv_iload_n hx hb d_PF_next_44 rfl (lv_at hl 3 rfl) ?_
            refine r_iast C h 10 rfl (j) (by omega) (rfl) (by decide) (g := va_up (gY G) j y) (upd_i _ _ _) (ws' := wPF cA ad V (gN G, gD G, gO G, gP G, gC G, va_up (gX G) j x, va_up (gY G) j y) K) (rfl) d_PF_next_45 (fun H locs h => ?_)
            refine lv_aload_n hx hb d_PF_next_46 rfl (lv_at hl 0 rfl) ?_
            refine lv_iconst (v := bI false) hx hb d_PF_next_47 (by decide) ?_
            refine r_put C h fl_PF_61 0 rfl rfl (bI_nar _) (bI_fit _) (Nat.le_of_ble_eq_true rfl) (ws' := wPF cA ad V (gN G, gD G, gO G, gP G, gC G, va_up (gX G) j x, va_up (gY G) j y) (K_kn K false)) (rfl) d_PF_next_48 (fun H locs h => ?_)
            refine lv_iconst (v := 1) hx hb d_PF_next_51 (by decide) ?_
            exact r_zret true C h hr rfl (Or.inr ⟨j, hj, rfl, ⟨c2, c4⟩, ⟨c3, fun z => Int32.not_lt.mpr z c5⟩, rfl, rfl⟩) d_PF_next_52
          · refine lv_iconst (v := 0) hx hb d_PF_next_30 (by decide) ?_
            exact r_zret false C h hr rfl (Or.inl ⟨fun z => absurd (Int32.not_lt.mp c5) z.2.2.2, rfl, rfl⟩) d_PF_next_31
set_option maxHeartbeats 4000000 in
set_option maxRecDepth 100000 in
theorem c_PF_clear (l : Launch) (D : va_G) (cA : Nat → ClassId) (ad : Nat → Nat) (V : VS) (G : GS) (K : KS)  : CtI l y_PF_clear b_PF_clear 2 (some .int) (rmZ) D cA [.ref (ad 0)] (wPF cA ad V G K) (fun r u => r = nI (gN G) ∧ u = wPF cA ad V (0, gD G, gO G, gP G, gC G, gX G, gY G) (K_kn K false)) := by
  refine CtI.of (by decide) (Nat.le_of_ble_eq_true rfl) ?_
  intro p e s m below meth c ls C hin hr h hl
  obtain ⟨hx, hb, hml, hown, hts, hK, hlk⟩ := id C
  have hNW := hK.2
  have hl : lv_has ls 2 [(0, .ref (ad 0))] := hl
  refine lv_aload_n hx hb d_PF_clear_0 rfl (lv_at hl 0 rfl) ?_
  refine r_get C h fl_PF_76 0 rfl rfl d_PF_clear_1 ?_
  refine lv_istore_n (lv' := [(1, .int (nI (gN G))), (0, .ref (ad 0))]) hx hb d_PF_clear_4 rfl hl (by decide) rfl (fun ls hl => ?_)
  refine lv_aload_n hx hb d_PF_clear_5 rfl (lv_at hl 1 rfl) ?_
  refine lv_iconst (v := nI 0) hx hb d_PF_clear_6 (by decide) ?_
  refine r_put C h fl_PF_76 0 rfl rfl (rfl) (rfl) (Nat.le_of_ble_eq_true rfl) (ws' := wPF cA ad V (0, gD G, gO G, gP G, gC G, gX G, gY G) K) (rfl) d_PF_clear_7 (fun H locs h => ?_)
  refine lv_aload_n hx hb d_PF_clear_10 rfl (lv_at hl 1 rfl) ?_
  refine lv_iconst (v := bI false) hx hb d_PF_clear_11 (by decide) ?_
  refine r_put C h fl_PF_61 0 rfl rfl (bI_nar _) (bI_fit _) (Nat.le_of_ble_eq_true rfl) (ws' := wPF cA ad V (0, gD G, gO G, gP G, gC G, gX G, gY G) (K_kn K false)) (rfl) d_PF_clear_12 (fun H locs h => ?_)
  refine lv_iload_n hx hb d_PF_clear_15 rfl (lv_at hl 0 rfl) ?_
  exact r_iret C h hr ⟨rfl, rfl⟩ d_PF_clear_16
end
section
/-! PartsFlow: come, pass -/
set_option maxHeartbeats 4000000 in
set_option maxRecDepth 100000 in
theorem c_PF_come (l : Launch) (D : va_G) (cA : Nat → ClassId) (ad : Nat → Nat) (V : VS) (G : GS) (K : KS) (x : Int32) (hn : gN G ≤ 120) : CtV l y_PF_come b_PF_come 2 none ({ frames := 1, cells := 0, slots := 0, locals := 23 }) D cA [.ref (ad 0), .int x] (wPF cA ad V G K) (fun u => (isN (gN G) x = false ∧ u = wPF cA ad V G K) ∨ (∃ q, q < gN G ∧ x = nI q ∧ ∃ ch : Bool, (ch = true ↔ kCh K = true ∨ kRc K q = false ∨ (∃ k, k < 192 ∧ kNw K k = true ∧ kLw K q k = false) ∨ (∃ k, k < 192 ∧ kNh K k = true ∧ kLh K q k = false)) ∧ u = wPF cA ad V G (kKn K, ch, va_up (kRc K) q true, kNw K, kNh K, va_up (kLw K) q (addS (kLw K q) (kNw K)), va_up (kLh K) q (addS (kLh K q) (kNh K))))) := by
  refine CtV.of (by decide) (Nat.le_of_ble_eq_true rfl) ?_
  intro p e s m below meth c ls C hin hr h hl
  obtain ⟨hx, hb, hml, hown, hts, hK, hlk⟩ := id C
  have hNW := hK.2
  have hl : lv_has ls 2 [(0, .ref (ad 0)), (1, .int x)] := hl
  refine lv_aload_n hx hb d_PF_come_0 rfl (lv_at hl 0 rfl) ?_
  refine lv_iload_n hx hb d_PF_come_1 rfl (lv_at hl 1 rfl) ?_
  refine r_calli (As := [.int x]) (rest := []) C h cv_PF_80 (c_PF_isPoint l D cA ad V G K x) 0 rfl rfl rfl rfl hl.1 rfl (Nat.le_of_ble_eq_true rfl) rfl rfl ⟨Nat.le_of_ble_eq_true rfl, Nat.le_of_ble_eq_true rfl⟩ ⟨Nat.le_of_ble_eq_true rfl, Nat.le_of_ble_eq_true rfl⟩ d_PF_come_2 (fun r u H locs hq h => ?_)
  obtain ⟨rfl, rfl⟩ := hq
  refine lv_if_ne (tgt := 9) hx hb d_PF_come_5 (by decide) (fun c1 => ?_) (fun c1 => ?_)
  · obtain ⟨q, hq, rfl⟩ := (isN_t (by omega)).mp (bI_n0.mp c1)
    have hq120 : q < 120 := by omega
    refine lv_aload_n hx hb d_PF_come_9 rfl (lv_at hl 0 rfl) ?_
    refine lv_aload_n hx hb d_PF_come_10 rfl (lv_at hl 0 rfl) ?_
    refine r_get C h fl_PF_83 0 rfl rfl d_PF_come_11 ?_
    refine w_join 31 [.ref (ad 0)] (fun v => v = bI (kCh K || !kRc K q)) (fun hj => ?_) (fun v hv => ?_)
    · refine lv_if_ne (tgt := 26) hx hb d_PF_come_14 (by decide) (fun c2 => ?_) (fun c2 => ?_)
      · refine lv_iconst (v := 1) hx hb d_PF_come_26 (by decide) ?_
        refine lv_goto (tgt := 31) hx hb d_PF_come_27 (by decide) ?_
        exact hj 1 (by rw [bI_n0.mp c2]; rfl)
      · refine lv_aload_n hx hb d_PF_come_17 rfl (lv_at hl 0 rfl) ?_
        refine r_get C h fl_PF_45 0 rfl rfl d_PF_come_18 ?_
        refine lv_iload_n hx hb d_PF_come_21 rfl (lv_at hl 1 rfl) ?_
        refine r_zald C h 11 rfl (q) (hq120) (rfl) (by decide) (v := bI (kRc K q)) (rfl) d_PF_come_22 ?_
        refine lv_if_ne (tgt := 30) hx hb d_PF_come_23 (by decide) (fun c3 => ?_) (fun c3 => ?_)
        · refine lv_iconst (v := 0) hx hb d_PF_come_30 (by decide) ?_
          exact hj 0 (by rw [bI_0.mp c2, bI_n0.mp c3]; rfl)
        · refine lv_iconst (v := 1) hx hb d_PF_come_26 (by decide) ?_
          refine lv_goto (tgt := 31) hx hb d_PF_come_27 (by decide) ?_
          exact hj 1 (by rw [bI_0.mp c2, bI_0.mp c3]; rfl)
    · subst hv
      refine r_put C h fl_PF_83 0 rfl rfl (bI_nar _) (bI_fit _) (Nat.le_of_ble_eq_true rfl) (ws' := wPF cA ad V G (kKn K, (kCh K || !kRc K q), kRc K, kNw K, kNh K, kLw K, kLh K)) (rfl) d_PF_come_31 (fun H locs h => ?_)
      refine lv_aload_n hx hb d_PF_come_34 rfl (lv_at hl 0 rfl) ?_
      refine r_get C h fl_PF_45 0 rfl rfl d_PF_come_35 ?_
      refine lv_iload_n hx hb d_PF_come_38 rfl (lv_at hl 1 rfl) ?_
      refine lv_iconst (v := bI true) hx hb d_PF_come_39 (by decide) ?_
      refine r_zast C h 11 rfl (q) (hq120) (rfl) (by decide) (g := fun j => bI (va_up (kRc K) q true j)) (upd_bI _ _ _) (ws' := wPF cA ad V G (kKn K, (kCh K || !kRc K q), va_up (kRc K) q true, kNw K, kNh K, kLw K, kLh K)) (rfl) d_PF_come_40 (fun H locs h => ?_)
      refine lv_aload_n hx hb d_PF_come_41 rfl (lv_at hl 0 rfl) ?_
      refine r_get C h fl_PF_38 0 rfl rfl d_PF_come_42 ?_
      refine lv_iload_n hx hb d_PF_come_45 rfl (lv_at hl 1 rfl) ?_
      refine r_qald C h 12 rfl (q) (hq120) (rfl) (by decide) (v := ad (18 + 4 * q)) (rfl) d_PF_come_46 ?_
      refine lv_aload_n hx hb d_PF_come_47 rfl (lv_at hl 0 rfl) ?_
      refine r_get C h fl_PF_50 0 rfl rfl d_PF_come_48 ?_
      refine r_calli (As := [.ref (ad 14)]) (rest := []) C h cv_PF_86 (c_PP_addAll l D cA (wPF cA ad V G (kKn K, (kCh K || !kRc K q), va_up (kRc K) q true, kNw K, kNh K, kLw K, kLh K)) (18 + 4 * q) (19 + 4 * q) (ad (18 + 4 * q)) (ad (19 + 4 * q)) (kLw K q) (lk_w0 hq120) (lk_w1 hq120) 14 15 (ad 14) (ad 15) (kNw K) rfl rfl (by omega)) (18 + 4 * q) (lk_w0 hq120) rfl rfl rfl hl.1 rfl (Nat.le_of_ble_eq_true rfl) rfl rfl ⟨Nat.le_of_ble_eq_true rfl, Nat.le_of_ble_eq_true rfl⟩ ⟨Nat.le_of_ble_eq_true rfl, Nat.le_of_ble_eq_true rfl⟩ d_PF_come_51 (fun r u H locs hq h => ?_)
      obtain ⟨b1, rfl, hb1, rfl⟩ := hq
      rw [st_w hq120] at h
      refine w_joinH 62 [] (fun H locs => Hp (va_A (wPF cA ad V G K) s.heap.size) s D (wPF cA ad V G (kKn K, (kCh K || !kRc K q || b1), va_up (kRc K) q true, kNw K, kNh K, va_up (kLw K) q (addS (kLw K q) (kNw K)), kLh K)) H locs) (fun hj => ?_) (fun H locs h => ?_)
      · refine lv_if_eq (tgt := 62) hx hb d_PF_come_54 (by decide) (fun c4 => ?_) (fun c4 => ?_)
        · refine hj H locs ?_
          rw [bI_0.mp c4, Bool.or_false]; exact h
        · refine lv_aload_n hx hb d_PF_come_57 rfl (lv_at hl 0 rfl) ?_
          refine lv_iconst (v := 1) hx hb d_PF_come_58 (by decide) ?_
          refine r_put C h fl_PF_83 0 rfl rfl (rfl) (rfl) (Nat.le_of_ble_eq_true rfl) (ws' := wPF cA ad V G (kKn K, (kCh K || !kRc K q || b1), va_up (kRc K) q true, kNw K, kNh K, va_up (kLw K) q (addS (kLw K q) (kNw K)), kLh K)) (by rw [bI_n0.mp c4, Bool.or_true]; rfl) d_PF_come_59 (fun H locs h => ?_)
          exact hj H locs h
      · refine lv_aload_n hx hb d_PF_come_62 rfl (lv_at hl 0 rfl) ?_
        refine r_get C h fl_PF_42 0 rfl rfl d_PF_come_63 ?_
        refine lv_iload_n hx hb d_PF_come_66 rfl (lv_at hl 1 rfl) ?_
        refine r_qald C h 13 rfl (q) (hq120) (rfl) (by decide) (v := ad (20 + 4 * q)) (rfl) d_PF_come_67 ?_
        refine lv_aload_n hx hb d_PF_come_68 rfl (lv_at hl 0 rfl) ?_
        refine r_get C h fl_PF_54 0 rfl rfl d_PF_come_69 ?_
        refine r_calli (As := [.ref (ad 16)]) (rest := []) C h cv_PF_86 (c_PP_addAll l D cA (wPF cA ad V G (kKn K, (kCh K || !kRc K q || b1), va_up (kRc K) q true, kNw K, kNh K, va_up (kLw K) q (addS (kLw K q) (kNw K)), kLh K)) (20 + 4 * q) (21 + 4 * q) (ad (20 + 4 * q)) (ad (21 + 4 * q)) (kLh K q) (lk_h0 hq120) (lk_h1 hq120) 16 17 (ad 16) (ad 17) (kNh K) rfl rfl (by omega)) (20 + 4 * q) (lk_h0 hq120) rfl rfl rfl hl.1 rfl (Nat.le_of_ble_eq_true rfl) rfl rfl ⟨Nat.le_of_ble_eq_true rfl, Nat.le_of_ble_eq_true rfl⟩ ⟨Nat.le_of_ble_eq_true rfl, Nat.le_of_ble_eq_true rfl⟩ d_PF_come_72 (fun r u H locs hq h => ?_)
        obtain ⟨b2, rfl, hb2, rfl⟩ := hq
        rw [st_h hq120] at h
        refine w_joinH 83 [] (fun H locs => Hp (va_A (wPF cA ad V G K) s.heap.size) s D (wPF cA ad V G (kKn K, (kCh K || !kRc K q || b1 || b2), va_up (kRc K) q true, kNw K, kNh K, va_up (kLw K) q (addS (kLw K q) (kNw K)), va_up (kLh K) q (addS (kLh K q) (kNh K)))) H locs) (fun hj => ?_) (fun H locs h => ?_)
        · refine lv_if_eq (tgt := 83) hx hb d_PF_come_75 (by decide) (fun c5 => ?_) (fun c5 => ?_)
          · refine hj H locs ?_
            rw [bI_0.mp c5, Bool.or_false]; exact h
          · refine lv_aload_n hx hb d_PF_come_78 rfl (lv_at hl 0 rfl) ?_
            refine lv_iconst (v := 1) hx hb d_PF_come_79 (by decide) ?_
            refine r_put C h fl_PF_83 0 rfl rfl (rfl) (rfl) (Nat.le_of_ble_eq_true rfl) (ws' := wPF cA ad V G (kKn K, (kCh K || !kRc K q || b1 || b2), va_up (kRc K) q true, kNw K, kNh K, va_up (kLw K) q (addS (kLw K q) (kNw K)), va_up (kLh K) q (addS (kLh K q) (kNh K)))) (by rw [bI_n0.mp c5, Bool.or_true]; rfl) d_PF_come_80 (fun H locs h => ?_)
            exact hj H locs h
        · refine r_vret C h hr (Or.inr ⟨q, hq, rfl, (kCh K || !kRc K q || b1 || b2), ?_, rfl⟩) d_PF_come_83
          rw [Bool.or_eq_true, Bool.or_eq_true, Bool.or_eq_true, hb1, hb2, Bool.not_eq_true', or_assoc, or_assoc]
  · exact r_vret C h hr (Or.inl ⟨bI_0.mp c1, rfl⟩) d_PF_come_8
def pW (V : VS) (G : GS) (K : KS) (q : Nat) : Nat → Bool := if gD G q = 0 ∨ gD G q = 3 then copS (kNw K) (kLw K q) else setS (copS (kNw K) (kLw K q)) (vF V (gO G q) + gP G q) (gC G q) (decide (¬ gD G q = 1))
def pH (V : VS) (G : GS) (K : KS) (q : Nat) : Nat → Bool := if gD G q = 0 ∨ gD G q = 3 then copS (kNh K) (kLh K q) else setS (copS (kNh K) (kLh K q)) (vF V (gO G q) + gP G q) (gC G q) (decide (gD G q = 1))
def okG (V : VS) (G : GS) (q : Nat) : Prop := gD G q ≤ 5 ∧ (gD G q = 0 ∨ (gO G q < vN V ∧ vF V (gO G q) + gP G q + gC G q ≤ vF V (gO G q + 1)))
set_option maxHeartbeats 4000000 in
set_option maxRecDepth 100000 in
theorem c_PF_pass (l : Launch) (D : va_G) (cA : Nat → ClassId) (ad : Nat → Nat) (V : VS) (G : GS) (K : KS) (q : Nat) (hq120 : q < 120) (hv20 : vN V ≤ 20) (hvt : ∀ j, j ≤ vN V → vF V j ≤ 160) (hok : okG V G q) : CtV l y_PF_pass b_PF_pass 3 none ({ frames := 1, cells := 0, slots := 0, locals := 24 }) D cA [.ref (ad 0), .int (nI q)] (wPF cA ad V G K) (fun u => u = wPF cA ad V G (kKn K, kCh K, kRc K, pW V G K q, pH V G K q, kLw K, kLh K)) := by
  refine CtV.of (by decide) (Nat.le_of_ble_eq_true rfl) ?_
  intro p e s m below meth c ls C hin hr h hl
  obtain ⟨hx, hb, hml, hown, hts, hK, hlk⟩ := id C
  have hNW := hK.2
  have hl : lv_has ls 3 [(0, .ref (ad 0)), (1, .int (nI q))] := hl
  obtain ⟨hd5, hG⟩ := hok
  refine lv_aload_n hx hb d_PF_pass_0 rfl (lv_at hl 0 rfl) ?_
  refine r_get C h fl_PF_50 0 rfl rfl d_PF_pass_1 ?_
  refine lv_aload_n hx hb d_PF_pass_4 rfl (lv_at hl 0 rfl) ?_
  refine r_get C h fl_PF_38 0 rfl rfl d_PF_pass_5 ?_
  refine lv_iload_n hx hb d_PF_pass_8 rfl (lv_at hl 1 rfl) ?_
  refine r_qald C h 12 rfl (q) (hq120) (rfl) (by decide) (v := ad (18 + 4 * q)) (rfl) d_PF_pass_9 ?_
  refine r_callv (As := [.ref (ad (18 + 4 * q))]) (rest := []) C h cv_PF_90 (c_PP_copy l D cA (wPF cA ad V G K) 14 15 (ad 14) (ad 15) (kNw K) rfl rfl (18 + 4 * q) (19 + 4 * q) (ad (18 + 4 * q)) (ad (19 + 4 * q)) (kLw K q) (lk_w0 hq120) (lk_w1 hq120) (by omega)) 14 rfl rfl rfl rfl hl.1 rfl (Nat.le_of_ble_eq_true rfl) rfl rfl ⟨Nat.le_of_ble_eq_true rfl, Nat.le_of_ble_eq_true rfl⟩ ⟨Nat.le_of_ble_eq_true rfl, Nat.le_of_ble_eq_true rfl⟩ d_PF_pass_10 (fun u H locs hq h => ?_)
  subst hq
  have h : Hp (va_A (wPF cA ad V G K) s.heap.size) s D (wPF cA ad V G (kKn K, kCh K, kRc K, copS (kNw K) (kLw K q), kNh K, kLw K, kLh K)) H locs := h
  refine lv_aload_n hx hb d_PF_pass_13 rfl (lv_at hl 0 rfl) ?_
  refine r_get C h fl_PF_54 0 rfl rfl d_PF_pass_14 ?_
  refine lv_aload_n hx hb d_PF_pass_17 rfl (lv_at hl 0 rfl) ?_
  refine r_get C h fl_PF_42 0 rfl rfl d_PF_pass_18 ?_
  refine lv_iload_n hx hb d_PF_pass_21 rfl (lv_at hl 1 rfl) ?_
  refine r_qald C h 13 rfl (q) (hq120) (rfl) (by decide) (v := ad (20 + 4 * q)) (rfl) d_PF_pass_22 ?_
  refine r_callv (As := [.ref (ad (20 + 4 * q))]) (rest := []) C h cv_PF_90 (c_PP_copy l D cA (wPF cA ad V G (kKn K, kCh K, kRc K, copS (kNw K) (kLw K q), kNh K, kLw K, kLh K)) 16 17 (ad 16) (ad 17) (kNh K) rfl rfl (20 + 4 * q) (21 + 4 * q) (ad (20 + 4 * q)) (ad (21 + 4 * q)) (kLh K q) (lk_h0 hq120) (lk_h1 hq120) (by omega)) 16 rfl rfl rfl rfl hl.1 rfl (Nat.le_of_ble_eq_true rfl) rfl rfl ⟨Nat.le_of_ble_eq_true rfl, Nat.le_of_ble_eq_true rfl⟩ ⟨Nat.le_of_ble_eq_true rfl, Nat.le_of_ble_eq_true rfl⟩ d_PF_pass_23 (fun u H locs hq h => ?_)
  subst hq
  have h : Hp (va_A (wPF cA ad V G K) s.heap.size) s D (wPF cA ad V G (kKn K, kCh K, kRc K, copS (kNw K) (kLw K q), copS (kNh K) (kLh K q), kLw K, kLh K)) H locs := h
  refine lv_aload_n hx hb d_PF_pass_26 rfl (lv_at hl 0 rfl) ?_
  refine r_get C h fl_PF_16 0 rfl rfl d_PF_pass_27 ?_
  refine lv_iload_n hx hb d_PF_pass_30 rfl (lv_at hl 1 rfl) ?_
  refine r_bald C h 5 rfl (q) (hq120) (rfl) (by decide) (v := nI (gD G q)) (rfl) d_PF_pass_31 ?_
  refine lv_if_eq (tgt := 45) hx hb d_PF_pass_32 (by decide) (fun c1 => ?_) (fun c1 => ?_)
  · have hc : gD G q = 0 ∨ gD G q = 3 := Or.inl ((nI_eq (by omega) (by decide)).mp (c1.trans nI_0.symm))
    exact r_vret C h hr (by unfold pW pH; rw [if_pos hc, if_pos hc]) d_PF_pass_45
  · refine lv_aload_n hx hb d_PF_pass_35 rfl (lv_at hl 0 rfl) ?_
    refine r_get C h fl_PF_16 0 rfl rfl d_PF_pass_36 ?_
    refine lv_iload_n hx hb d_PF_pass_39 rfl (lv_at hl 1 rfl) ?_
    refine r_bald C h 5 rfl (q) (hq120) (rfl) (by decide) (v := nI (gD G q)) (rfl) d_PF_pass_40 ?_
    refine lv_iconst (v := nI 3) hx hb d_PF_pass_41 (by decide) ?_
    refine lv_icmp_ne (tgt := 46) hx hb d_PF_pass_42 (by decide) (fun c2 => ?_) (fun c2 => ?_)
    · have hc0 : ¬ gD G q = 0 := fun z => c1 (by rw [z]; exact nI_0)
      have hc3 : ¬ gD G q = 3 := fun z => c2 (by rw [z])
      obtain ⟨hov, hfc⟩ := hG.resolve_left hc0
      have h160 := hvt (gO G q + 1) (by omega)
      have hcs : ¬ (gD G q = 0 ∨ gD G q = 3) := fun z => z.elim hc0 hc3
      refine lv_aload_n hx hb d_PF_pass_46 rfl (lv_at hl 0 rfl) ?_
      refine r_get C h fl_PF_10 0 rfl rfl d_PF_pass_47 ?_
      refine r_getN (q := (R_PV, F_PV, 4)) (ci := 1) (k := 0) C h hNW.1 rfl (by decide) rfl in_PV 1 rfl rfl d_PF_pass_50 ?_
      refine lv_aload_n hx hb d_PF_pass_53 rfl (lv_at hl 0 rfl) ?_
      refine r_get C h fl_PF_20 0 rfl rfl d_PF_pass_54 ?_
      refine lv_iload_n hx hb d_PF_pass_57 rfl (lv_at hl 1 rfl) ?_
      refine r_iald C h 6 rfl (q) (hq120) (rfl) (by decide) (v := nI (gO G q)) (rfl) d_PF_pass_58 ?_
      refine r_iald C h 2 rfl (gO G q) (by omega) (rfl) (by decide) (v := nI (vF V (gO G q))) (rfl) d_PF_pass_59 ?_
      refine lv_aload_n hx hb d_PF_pass_60 rfl (lv_at hl 0 rfl) ?_
      refine r_get C h fl_PF_24 0 rfl rfl d_PF_pass_61 ?_
      refine lv_iload_n hx hb d_PF_pass_64 rfl (lv_at hl 1 rfl) ?_
      refine r_iald C h 7 rfl (q) (hq120) (rfl) (by decide) (v := nI (gP G q)) (rfl) d_PF_pass_65 ?_
      refine lv_iadd hx hb d_PF_pass_66 ?_
      refine w_i (nI (vF V (gO G q) + gP G q)) (nI_add _ _) ?_
      refine lv_istore_n (lv' := [(2, .int (nI (vF V (gO G q) + gP G q))), (0, .ref (ad 0)), (1, .int (nI q))]) hx hb d_PF_pass_67 rfl hl (by decide) rfl (fun ls hl => ?_)
      refine lv_aload_n hx hb d_PF_pass_68 rfl (lv_at hl 1 rfl) ?_
      refine r_get C h fl_PF_50 0 rfl rfl d_PF_pass_69 ?_
      refine lv_iload_n hx hb d_PF_pass_72 rfl (lv_at hl 0 rfl) ?_
      refine lv_aload_n hx hb d_PF_pass_73 rfl (lv_at hl 1 rfl) ?_
      refine r_get C h fl_PF_27 0 rfl rfl d_PF_pass_74 ?_
      refine lv_iload_n hx hb d_PF_pass_77 rfl (lv_at hl 2 rfl) ?_
      refine r_iald C h 8 rfl (q) (hq120) (rfl) (by decide) (v := nI (gC G q)) (rfl) d_PF_pass_78 ?_
      refine lv_aload_n hx hb d_PF_pass_79 rfl (lv_at hl 1 rfl) ?_
      refine r_get C h fl_PF_16 0 rfl rfl d_PF_pass_80 ?_
      refine lv_iload_n hx hb d_PF_pass_83 rfl (lv_at hl 2 rfl) ?_
      refine r_bald C h 5 rfl (q) (hq120) (rfl) (by decide) (v := nI (gD G q)) (rfl) d_PF_pass_84 ?_
      refine lv_iconst (v := 1) hx hb d_PF_pass_85 (by decide) ?_
      refine w_join 94 [.int (nI (gC G q)), .int (nI (vF V (gO G q) + gP G q)), .ref (ad 14)] (fun v => v = bI (decide (¬ gD G q = 1))) (fun hj => ?_) (fun v hv => ?_)
      · refine lv_icmp_eq (tgt := 93) hx hb d_PF_pass_86 (by decide) (fun c3 => ?_) (fun c3 => ?_)
        · refine lv_iconst (v := 0) hx hb d_PF_pass_93 (by decide) ?_
          exact hj 0 (by rw [(nI_eq (by omega) (by decide)).mp (c3 : nI (gD G q) = nI 1)]; rfl)
        · refine lv_iconst (v := 1) hx hb d_PF_pass_89 (by decide) ?_
          refine lv_goto (tgt := 94) hx hb d_PF_pass_90 (by decide) ?_
          exact hj 1 (by rw [decide_eq_true (show ¬ gD G q = 1 from fun z => c3 (by rw [z]; rfl))]; rfl)
      · subst hv
        refine r_callv (As := [.int (nI (vF V (gO G q) + gP G q)), .int (nI (gC G q)), .int (bI (decide (¬ gD G q = 1)))]) (rest := []) C h cv_PF_95 (c_PP_set l D cA (wPF cA ad V G (kKn K, kCh K, kRc K, copS (kNw K) (kLw K q), copS (kNh K) (kLh K q), kLw K, kLh K)) 14 15 (ad 14) (ad 15) (copS (kNw K) (kLw K q)) rfl rfl (vF V (gO G q) + gP G q) (gC G q) (decide (¬ gD G q = 1)) (by omega)) 14 rfl rfl rfl rfl hl.1 rfl (Nat.le_of_ble_eq_true rfl) rfl rfl ⟨Nat.le_of_ble_eq_true rfl, Nat.le_of_ble_eq_true rfl⟩ ⟨Nat.le_of_ble_eq_true rfl, Nat.le_of_ble_eq_true rfl⟩ d_PF_pass_94 (fun u H locs hq h => ?_)
        subst hq
        have h : Hp (va_A (wPF cA ad V G K) s.heap.size) s D (wPF cA ad V G (kKn K, kCh K, kRc K, setS (copS (kNw K) (kLw K q)) (vF V (gO G q) + gP G q) (gC G q) (decide (¬ gD G q = 1)), copS (kNh K) (kLh K q), kLw K, kLh K)) H locs := h
        refine lv_aload_n hx hb d_PF_pass_97 rfl (lv_at hl 1 rfl) ?_
        refine r_get C h fl_PF_54 0 rfl rfl d_PF_pass_98 ?_
        refine lv_iload_n hx hb d_PF_pass_101 rfl (lv_at hl 0 rfl) ?_
        refine lv_aload_n hx hb d_PF_pass_102 rfl (lv_at hl 1 rfl) ?_
        refine r_get C h fl_PF_27 0 rfl rfl d_PF_pass_103 ?_
        refine lv_iload_n hx hb d_PF_pass_106 rfl (lv_at hl 2 rfl) ?_
        refine r_iald C h 8 rfl (q) (hq120) (rfl) (by decide) (v := nI (gC G q)) (rfl) d_PF_pass_107 ?_
        refine lv_aload_n hx hb d_PF_pass_108 rfl (lv_at hl 1 rfl) ?_
        refine r_get C h fl_PF_16 0 rfl rfl d_PF_pass_109 ?_
        refine lv_iload_n hx hb d_PF_pass_112 rfl (lv_at hl 2 rfl) ?_
        refine r_bald C h 5 rfl (q) (hq120) (rfl) (by decide) (v := nI (gD G q)) (rfl) d_PF_pass_113 ?_
        refine lv_iconst (v := 1) hx hb d_PF_pass_114 (by decide) ?_
        refine w_join 123 [.int (nI (gC G q)), .int (nI (vF V (gO G q) + gP G q)), .ref (ad 16)] (fun v => v = bI (decide (gD G q = 1))) (fun hj => ?_) (fun v hv => ?_)
        · refine lv_icmp_ne (tgt := 122) hx hb d_PF_pass_115 (by decide) (fun c4 => ?_) (fun c4 => ?_)
          · refine lv_iconst (v := 0) hx hb d_PF_pass_122 (by decide) ?_
            exact hj 0 (by rw [decide_eq_false (fun z : gD G q = 1 => c4 (by rw [z]; rfl))]; rfl)
          · refine lv_iconst (v := 1) hx hb d_PF_pass_118 (by decide) ?_
            refine lv_goto (tgt := 123) hx hb d_PF_pass_119 (by decide) ?_
            exact hj 1 (by rw [(nI_eq (by omega) (by decide)).mp (c4 : nI (gD G q) = nI 1)]; rfl)
        · subst hv
          refine r_callv (As := [.int (nI (vF V (gO G q) + gP G q)), .int (nI (gC G q)), .int (bI (decide (gD G q = 1)))]) (rest := []) C h cv_PF_95 (c_PP_set l D cA (wPF cA ad V G (kKn K, kCh K, kRc K, setS (copS (kNw K) (kLw K q)) (vF V (gO G q) + gP G q) (gC G q) (decide (¬ gD G q = 1)), copS (kNh K) (kLh K q), kLw K, kLh K)) 16 17 (ad 16) (ad 17) (copS (kNh K) (kLh K q)) rfl rfl (vF V (gO G q) + gP G q) (gC G q) (decide (gD G q = 1)) (by omega)) 16 rfl rfl rfl rfl hl.1 rfl (Nat.le_of_ble_eq_true rfl) rfl rfl ⟨Nat.le_of_ble_eq_true rfl, Nat.le_of_ble_eq_true rfl⟩ ⟨Nat.le_of_ble_eq_true rfl, Nat.le_of_ble_eq_true rfl⟩ d_PF_pass_123 (fun u H locs hq h => ?_)
          subst hq
          exact r_vret C h hr (by unfold pW pH; rw [if_neg hcs, if_neg hcs]; rfl) d_PF_pass_126
    · have hc : gD G q = 0 ∨ gD G q = 3 := Or.inr ((nI_eq (by omega) (by decide)).mp c2)
      exact r_vret C h hr (by unfold pW pH; rw [if_pos hc, if_pos hc]) d_PF_pass_45
end
section
/-! The fixpoint of PartsFlow.know, pure: what ways come to -/
def RP (n : Nat) (xs ys : Nat → Int32) (g : Bool) (tr : Nat → Bool → Bool) (p : Nat) (w : Bool) : Prop :=
  ∀ S : Nat → Bool → Prop, (0 < n → S 0 g) → (∀ a w b, a < n → S a w → b < n → (xs a = nI b ∨ ys a = nI b) → S b (tr a w)) → S p w
def RN (n : Nat) (xs ys : Nat → Int32) (p : Nat) : Prop := RP n xs ys false (fun _ w => w) p false
section RPs
variable {n : Nat} {xs ys xs' ys' : Nat → Int32} {g : Bool} {tr tr' : Nat → Bool → Bool} {a b p : Nat} {w : Bool}
theorem RP_0 (h : 0 < n) : RP n xs ys g tr 0 g := fun _ h0 _ => h0 h
theorem RP_s (ha : a < n) (h : RP n xs ys g tr a w) (hb : b < n) (e : xs a = nI b ∨ ys a = nI b) : RP n xs ys g tr b (tr a w) := fun S h0 hs => hs a w b ha (h S h0 hs) hb e
theorem RN_0 (h : 0 < n) : RN n xs ys 0 := RP_0 h
theorem RN_s (ha : a < n) (h : RN n xs ys a) (hb : b < n) (e : xs a = nI b ∨ ys a = nI b) : RN n xs ys b := RP_s (tr := fun _ w => w) ha h hb e
theorem RP_congr (hx : ∀ a, a < n → xs a = xs' a ∧ ys a = ys' a) (ht : ∀ a, a < n → ∀ w, tr a w = tr' a w) (h : RP n xs ys g tr p w) : RP n xs' ys' g tr' p w := by
  intro S h0 hs
  refine h S h0 (fun a w b ha hS hb e => ?_)
  rw [ht a ha]
  refine hs a w b ha hS hb ?_
  rw [← (hx a ha).1, ← (hx a ha).2]
  exact e
theorem RP_iff (hx : ∀ a, a < n → xs a = xs' a ∧ ys a = ys' a) (ht : ∀ a, a < n → ∀ w, tr a w = tr' a w) : RP n xs ys g tr p w ↔ RP n xs' ys' g tr' p w :=
  ⟨RP_congr hx ht, RP_congr (fun a ha => ⟨(hx a ha).1.symm, (hx a ha).2.symm⟩) (fun a ha w => (ht a ha w).symm)⟩
theorem RN_iff (hx : ∀ a, a < n → xs a = xs' a ∧ ys a = ys' a) : RN n xs ys p ↔ RN n xs' ys' p := RP_iff hx (fun _ _ _ => rfl)
end RPs
abbrev tot (V : VS) : Nat := vF V (vN V)
def trK (V : VS) (G : GS) (k : Nat) (a : Nat) (w : Bool) : Bool := if gD G a = 0 ∨ gD G a = 3 then w else if vF V (gO G a) + gP G a ≤ k ∧ k < vF V (gO G a) + gP G a + gC G a then decide (gD G a = 1) else w
def fW (V : VS) (G : GS) (L : Nat → Bool) (a k : Nat) : Bool := if gD G a = 0 ∨ gD G a = 3 then L k else if vF V (gO G a) + gP G a ≤ k ∧ k < vF V (gO G a) + gP G a + gC G a then decide (¬ gD G a = 1) else L k
def fH (V : VS) (G : GS) (L : Nat → Bool) (a k : Nat) : Bool := if gD G a = 0 ∨ gD G a = 3 then L k else if vF V (gO G a) + gP G a ≤ k ∧ k < vF V (gO G a) + gP G a + gC G a then decide (gD G a = 1) else L k
theorem pW_k {V : VS} {G : GS} {K : KS} {q k : Nat} (hk : k < 192) : pW V G K q k = fW V G (kLw K q) q k := by
  unfold pW fW
  by_cases h : gD G q = 0 ∨ gD G q = 3
  · rw [if_pos h, if_pos h]; unfold copS; rw [if_pos hk]
  · rw [if_neg h, if_neg h]; unfold setS copS; rw [if_pos hk]
theorem pH_k {V : VS} {G : GS} {K : KS} {q k : Nat} (hk : k < 192) : pH V G K q k = fH V G (kLh K q) q k := by
  unfold pH fH
  by_cases h : gD G q = 0 ∨ gD G q = 3
  · rw [if_pos h, if_pos h]; unfold copS; rw [if_pos hk]
  · rw [if_neg h, if_neg h]; unfold setS copS; rw [if_pos hk]
def nwI (V : VS) (S : Nat → Bool) : Nat → Nat → Bool
  | 0 => S
  | i + 1 => setS (nwI V S i) (vF V i) (vF V (i + 1) - vF V i) (!vG V i)
def nhI (V : VS) (S : Nat → Bool) : Nat → Nat → Bool
  | 0 => S
  | i + 1 => setS (nhI V S i) (vF V i) (vF V (i + 1) - vF V i) (vG V i)
def gK (V : VS) (k : Nat) : Bool := nhI V (fun _ => false) (vN V) k
theorem VIn.mono {V : VS} (h : VIn V) : ∀ i j, i ≤ j → j ≤ vN V → vF V i ≤ vF V j := by
  intro i j hij hj
  induction j with
  | zero => rw [show i = 0 by omega]; exact Nat.le_refl _
  | succ j ih =>
    by_cases e : i = j + 1
    · rw [e]; exact Nat.le_refl _
    · have h1 := ih (by omega) (by omega)
      have h2 := (h.2.2 j (by omega)).1
      omega
theorem VIn.le8 {V : VS} (h : VIn V) : ∀ j, j ≤ vN V → vF V j ≤ 8 * j := by
  intro j hj
  induction j with
  | zero => have := h.2.1; omega
  | succ j ih => have h1 := ih (by omega); have h2 := (h.2.2 j (by omega)).2; omega
theorem VIn.le160 {V : VS} (h : VIn V) : ∀ j, j ≤ vN V → vF V j ≤ 160 := by
  intro j hj
  have h1 := h.le8 j hj; have h2 := h.1; omega
theorem nhI_congr {V : VS} {S S' : Nat → Bool} {k : Nat} (h : S k = S' k) : ∀ i, nhI V S i k = nhI V S' i k
  | 0 => h
  | i + 1 => by show setS _ _ _ _ k = setS _ _ _ _ k; unfold setS; rw [nhI_congr h i]
theorem nhI_at {V : VS} (hV : VIn V) {S : Nat → Bool} {k v : Nat} (h1 : vF V v ≤ k) (h2 : k < vF V (v + 1)) : ∀ i, i ≤ vN V → v < i → nhI V S i k = vG V v
  | 0, _, h => by omega
  | i + 1, hi, h => by
    show setS _ _ _ _ k = _
    unfold setS
    have hm := (hV.2.2 i (by omega)).1
    by_cases e : v = i
    · subst e; rw [if_pos (by omega)]
    · have h3 := hV.mono (v + 1) i (by omega) (by omega)
      rw [if_neg (by omega), nhI_at hV h1 h2 i (by omega) (by omega)]
theorem nwI_at {V : VS} (hV : VIn V) {S : Nat → Bool} {k v : Nat} (h1 : vF V v ≤ k) (h2 : k < vF V (v + 1)) : ∀ i, i ≤ vN V → v < i → nwI V S i k = !vG V v
  | 0, _, h => by omega
  | i + 1, hi, h => by
    show setS _ _ _ _ k = _
    unfold setS
    have hm := (hV.2.2 i (by omega)).1
    by_cases e : v = i
    · subst e; rw [if_pos (by omega)]
    · have h3 := hV.mono (v + 1) i (by omega) (by omega)
      rw [if_neg (by omega), nwI_at hV h1 h2 i (by omega) (by omega)]
theorem seg {V : VS} (hV : VIn V) {k : Nat} : ∀ i, i ≤ vN V → k < vF V i → ∃ v, v < i ∧ vF V v ≤ k ∧ k < vF V (v + 1)
  | 0, _, h => by have := hV.2.1; omega
  | i + 1, hi, h => by
    by_cases e : k < vF V i
    · obtain ⟨v, h1, h2⟩ := seg hV i (by omega) e
      exact ⟨v, by omega, h2⟩
    · exact ⟨i, by omega, by omega, h⟩
theorem nh0 {V : VS} (hV : VIn V) {S : Nat → Bool} {k : Nat} (hk : k < tot V) : nhI V S (vN V) k = gK V k := by
  obtain ⟨v, h1, h2, h3⟩ := seg hV (vN V) (Nat.le_refl _) hk
  unfold gK
  rw [nhI_at hV h2 h3 _ (Nat.le_refl _) h1, nhI_at hV h2 h3 _ (Nat.le_refl _) h1]
theorem nw0 {V : VS} (hV : VIn V) {S : Nat → Bool} {k : Nat} (hk : k < tot V) : nwI V S (vN V) k = !gK V k := by
  obtain ⟨v, h1, h2, h3⟩ := seg hV (vN V) (Nat.le_refl _) hk
  unfold gK
  rw [nwI_at hV h2 h3 _ (Nat.le_refl _) h1, nhI_at hV h2 h3 _ (Nat.le_refl _) h1]
/-- what holds of the sets all along -/
def KI (V : VS) (G : GS) (rc : Nat → Bool) (Lw Lh : Nat → Nat → Bool) : Prop :=
  (∀ p, p < gN G → rc p = true → RN (gN G) (gX G) (gY G) p) ∧
  (∀ p k, p < gN G → k < tot V → (Lw p k = true → RP (gN G) (gX G) (gY G) (gK V k) (trK V G k) p false) ∧ (Lh p k = true → RP (gN G) (gX G) (gY G) (gK V k) (trK V G k) p true)) ∧
  (∀ p k, p < gN G → k < tot V → rc p = true → Lw p k = true ∨ Lh p k = true) ∧
  (∀ p k, p < gN G → k < tot V → (Lw p k = true ∨ Lh p k = true) → rc p = true) ∧
  (0 < gN G → rc 0 = true ∧ ∀ k, k < tot V → (gK V k = true → Lh 0 k = true) ∧ (gK V k = false → Lw 0 k = true))
/-- what may be sent to b -/
def Snd (V : VS) (G : GS) (nw nh : Nat → Bool) (b : Nat) : Prop :=
  RN (gN G) (gX G) (gY G) b ∧ ∀ k, k < tot V → (nw k = true → RP (gN G) (gX G) (gY G) (gK V k) (trK V G k) b false) ∧ (nh k = true → RP (gN G) (gX G) (gY G) (gK V k) (trK V G k) b true) ∧ (nw k = true ∨ nh k = true)
def Cl (V : VS) (G : GS) (rc : Nat → Bool) (Lw Lh : Nat → Nat → Bool) (a : Nat) : Prop :=
  rc a = true → ∀ b, b < gN G → (gX G a = nI b ∨ gY G a = nI b) → rc b = true ∧ ∀ k, k < tot V → (fW V G (Lw a) a k = true → Lw b k = true) ∧ (fH V G (Lh a) a k = true → Lh b k = true)
theorem addS_k {S T : Nat → Bool} {k : Nat} (hk : k < 192) : addS S T k = (S k || T k) := by unfold addS; rw [if_pos hk]
theorem KI_come {V : VS} {G : GS} {rc : Nat → Bool} {Lw Lh : Nat → Nat → Bool} {nw nh : Nat → Bool} {b : Nat} (hV : VIn V) (h : KI V G rc Lw Lh) (hs : Snd V G nw nh b) : KI V G (va_up rc b true) (va_up Lw b (addS (Lw b) nw)) (va_up Lh b (addS (Lh b) nh)) := by
  obtain ⟨h1, h2, h3, h4, h5⟩ := h
  obtain ⟨s1, s2⟩ := hs
  have ht : tot V ≤ 160 := hV.le160 _ (Nat.le_refl _)
  refine ⟨fun p hp => ?_, fun p k hp hk => ?_, fun p k hp hk => ?_, fun p k hp hk => ?_, fun h0 => ?_⟩
  · by_cases e : p = b
    · subst e; intro _; exact s1
    · rw [va_up_ne _ _ e]; exact h1 p hp
  · by_cases e : p = b
    · subst e
      rw [va_up_self, va_up_self, addS_k (by omega), addS_k (by omega), Bool.or_eq_true, Bool.or_eq_true]
      exact ⟨fun q => q.elim (h2 p k hp hk).1 (s2 k hk).1, fun q => q.elim (h2 p k hp hk).2 (s2 k hk).2.1⟩
    · rw [va_up_ne _ _ e, va_up_ne _ _ e]; exact h2 p k hp hk
  · by_cases e : p = b
    · subst e
      intro _
      rw [va_up_self, va_up_self, addS_k (by omega), addS_k (by omega), Bool.or_eq_true, Bool.or_eq_true]
      exact (s2 k hk).2.2.elim (fun q => Or.inl (Or.inr q)) (fun q => Or.inr (Or.inr q))
    · rw [va_up_ne _ _ e, va_up_ne _ _ e, va_up_ne _ _ e]; exact h3 p k hp hk
  · by_cases e : p = b
    · subst e; intro _; rw [va_up_self]
    · rw [va_up_ne _ _ e, va_up_ne _ _ e, va_up_ne _ _ e]; exact h4 p k hp hk
  · obtain ⟨g1, g2⟩ := h5 h0
    by_cases e : 0 = b
    · subst e
      refine ⟨va_up_self _ _ _, fun k hk => ?_⟩
      rw [va_up_self, va_up_self, addS_k (by omega), addS_k (by omega), Bool.or_eq_true, Bool.or_eq_true]
      exact ⟨fun q => Or.inl ((g2 k hk).1 q), fun q => Or.inl ((g2 k hk).2 q)⟩
    · rw [va_up_ne _ _ e, va_up_ne _ _ e, va_up_ne _ _ e]; exact ⟨g1, g2⟩
theorem KI_snd {V : VS} {G : GS} {K : KS} {a b : Nat} (hV : VIn V) (h : KI V G (kRc K) (kLw K) (kLh K)) (ha : a < gN G) (hr : kRc K a = true) (hb : b < gN G) (e : gX G a = nI b ∨ gY G a = nI b) : Snd V G (pW V G K a) (pH V G K a) b := by
  obtain ⟨h1, h2, h3, h4, h5⟩ := h
  have ht : tot V ≤ 160 := hV.le160 _ (Nat.le_refl _)
  refine ⟨RN_s ha (h1 a ha hr) hb e, fun k hk => ?_⟩
  rw [pW_k (by omega), pH_k (by omega)]
  have q2 := h2 a k ha hk
  have q3 := h3 a k ha hk hr
  have st : ∀ w, RP (gN G) (gX G) (gY G) (gK V k) (trK V G k) a w → RP (gN G) (gX G) (gY G) (gK V k) (trK V G k) b (trK V G k a w) := fun w z => RP_s ha z hb e
  unfold fW fH
  unfold trK at st
  by_cases c1 : gD G a = 0 ∨ gD G a = 3
  · simp only [if_pos c1] at st ⊢
    exact ⟨fun z => st false (q2.1 z), fun z => st true (q2.2 z), q3⟩
  · simp only [if_neg c1] at st ⊢
    by_cases c2 : vF V (gO G a) + gP G a ≤ k ∧ k < vF V (gO G a) + gP G a + gC G a
    · simp only [if_pos c2] at st ⊢
      have st2 : RP (gN G) (gX G) (gY G) (gK V k) (trK V G k) b (decide (gD G a = 1)) := q3.elim (fun z => st false (q2.1 z)) (fun z => st true (q2.2 z))
      by_cases c3 : gD G a = 1
      · rw [decide_eq_true c3] at st2 ⊢
        exact ⟨fun z => absurd c3 (of_decide_eq_true z), fun _ => st2, Or.inr rfl⟩
      · rw [decide_eq_false c3] at st2 ⊢
        exact ⟨fun _ => st2, fun z => absurd z (by decide), Or.inl (decide_eq_true c3)⟩
    · simp only [if_neg c2] at st ⊢
      exact ⟨fun z => st false (q2.1 z), fun z => st true (q2.2 z), q3⟩
/-- what PartsFlow knows -/
def Knows (V : VS) (G : GS) (K : KS) : Prop :=
  (∀ p, p < gN G → (kRc K p = true ↔ RN (gN G) (gX G) (gY G) p)) ∧
  ∀ p k, p < gN G → k < tot V → (kLw K p k = true ↔ RP (gN G) (gX G) (gY G) (gK V k) (trK V G k) p false) ∧ (kLh K p k = true ↔ RP (gN G) (gX G) (gY G) (gK V k) (trK V G k) p true)
theorem KI_knows {V : VS} {G : GS} {K : KS} (h : KI V G (kRc K) (kLw K) (kLh K)) (hc : ∀ a, a < gN G → Cl V G (kRc K) (kLw K) (kLh K) a) : Knows V G K := by
  obtain ⟨h1, h2, h3, h4, h5⟩ := h
  refine ⟨fun p hp => ⟨h1 p hp, fun hr => ?_⟩, fun p k hp hk => ?_⟩
  · exact hr (fun q _ => kRc K q = true) (fun h0 => (h5 h0).1) (fun a w b ha hS hb e => (hc a ha hS b hb e).1)
  · have key : ∀ w, RP (gN G) (gX G) (gY G) (gK V k) (trK V G k) p w → (if w then kLh K p k = true else kLw K p k = true) := by
      intro w hr
      refine hr (fun q w => if w then kLh K q k = true else kLw K q k = true) (fun h0 => ?_) (fun a w b ha hS hb e => ?_)
      · have g2 := (h5 h0).2 k hk
        cases hg : gK V k with
        | true => exact g2.1 hg
        | false => exact g2.2 hg
      · have hrc : kRc K a = true := h4 a k ha hk (by cases w; exact Or.inl hS; exact Or.inr hS)
        have g := (hc a ha hrc b hb e).2 k hk
        unfold fW fH at g
        unfold trK
        by_cases c1 : gD G a = 0 ∨ gD G a = 3
        · simp only [if_pos c1] at g ⊢
          cases w
          · exact g.1 hS
          · exact g.2 hS
        · simp only [if_neg c1] at g ⊢
          by_cases c2 : vF V (gO G a) + gP G a ≤ k ∧ k < vF V (gO G a) + gP G a + gC G a
          · simp only [if_pos c2] at g ⊢
            by_cases c3 : gD G a = 1
            · rw [decide_eq_true c3]; exact g.2 (decide_eq_true c3)
            · rw [decide_eq_false c3]; exact g.1 (decide_eq_true c3)
          · simp only [if_neg c2] at g ⊢
            cases w
            · exact g.1 hS
            · exact g.2 hS
    exact ⟨⟨(h2 p k hp hk).1, key false⟩, ⟨(h2 p k hp hk).2, key true⟩⟩
/-! the measure: how many bits are still missing -/
def cnt (f : Nat → Bool) : Nat → Nat
  | 0 => 0
  | n + 1 => cnt f n + (if f n then 0 else 1)
theorem cnt_le {f g : Nat → Bool} : ∀ n, (∀ j, j < n → f j = true → g j = true) → cnt g n ≤ cnt f n
  | 0, _ => Nat.le_refl _
  | n + 1, h => by
    have h1 := cnt_le n (fun j hj => h j (by omega))
    have h2 := h n (by omega)
    show cnt g n + _ ≤ cnt f n + _
    cases hf : f n
    · cases hg : g n <;> simp <;> omega
    · rw [h2 hf]; simp; omega
theorem cnt_lt {f g : Nat → Bool} : ∀ n, (∀ j, j < n → f j = true → g j = true) → (∃ j, j < n ∧ f j = false ∧ g j = true) → cnt g n < cnt f n
  | 0, _, ⟨j, h, _⟩ => by omega
  | n + 1, h, ⟨j, hj, h1, h2⟩ => by
    show cnt g n + _ < cnt f n + _
    by_cases e : j = n
    · subst e
      have h3 := cnt_le j (fun i hi => h i (by omega))
      rw [h1, h2]; simp; omega
    · have h3 := cnt_lt n (fun i hi => h i (by omega)) ⟨j, by omega, h1, h2⟩
      have h4 := h n (by omega)
      cases hf : f n
      · cases hg : g n <;> simp <;> omega
      · rw [h4 hf]; simp; omega
def flat (rc : Nat → Bool) (Lw Lh : Nat → Nat → Bool) (j : Nat) : Bool := if j % 385 = 0 then rc (j / 385) else if j % 385 ≤ 192 then Lw (j / 385) (j % 385 - 1) else Lh (j / 385) (j % 385 - 193)
def muK (rc : Nat → Bool) (Lw Lh : Nat → Nat → Bool) : Nat := cnt (flat rc Lw Lh) (120 * 385)
theorem flat_mono {rc : Nat → Bool} {Lw Lh : Nat → Nat → Bool} {nw nh : Nat → Bool} {b : Nat} (j : Nat) (h : flat rc Lw Lh j = true) : flat (va_up rc b true) (va_up Lw b (addS (Lw b) nw)) (va_up Lh b (addS (Lh b) nh)) j = true := by
  unfold flat at h ⊢
  have key : ∀ (S T : Nat → Bool) k, S k = true → addS S T k = true := by
    intro S T k z; unfold addS; split
    · rw [z]; rfl
    · exact z
  by_cases c0 : j % 385 = 0
  · rw [if_pos c0] at h ⊢
    by_cases e : j / 385 = b
    · rw [e, va_up_self]
    · rw [va_up_ne _ _ e]; exact h
  · rw [if_neg c0] at h ⊢
    by_cases c1 : j % 385 ≤ 192
    · rw [if_pos c1] at h ⊢
      by_cases e : j / 385 = b
      · rw [e] at h; rw [e, va_up_self]; exact key _ _ _ h
      · rw [va_up_ne _ _ e]; exact h
    · rw [if_neg c1] at h ⊢
      by_cases e : j / 385 = b
      · rw [e] at h; rw [e, va_up_self]; exact key _ _ _ h
      · rw [va_up_ne _ _ e]; exact h
theorem muK_le {rc : Nat → Bool} {Lw Lh : Nat → Nat → Bool} {nw nh : Nat → Bool} {b : Nat} : muK (va_up rc b true) (va_up Lw b (addS (Lw b) nw)) (va_up Lh b (addS (Lh b) nh)) ≤ muK rc Lw Lh := cnt_le _ (fun j _ h => flat_mono j h)
theorem muK_lt {rc : Nat → Bool} {Lw Lh : Nat → Nat → Bool} {nw nh : Nat → Bool} {b : Nat} (hb : b < 120) (h : rc b = false ∨ (∃ k, k < 192 ∧ nw k = true ∧ Lw b k = false) ∨ (∃ k, k < 192 ∧ nh k = true ∧ Lh b k = false)) : muK (va_up rc b true) (va_up Lw b (addS (Lw b) nw)) (va_up Lh b (addS (Lh b) nh)) < muK rc Lw Lh := by
  refine cnt_lt _ (fun j _ h => flat_mono j h) ?_
  rcases h with h | ⟨k, hk, h1, h2⟩ | ⟨k, hk, h1, h2⟩
  · refine ⟨b * 385, by omega, ?_, ?_⟩
    · unfold flat; rw [if_pos (by omega), show b * 385 / 385 = b by omega]; exact h
    · unfold flat; rw [if_pos (by omega), show b * 385 / 385 = b by omega, va_up_self]
  · refine ⟨b * 385 + (1 + k), by omega, ?_, ?_⟩
    · unfold flat; rw [if_neg (by omega), if_pos (by omega), show (b * 385 + (1 + k)) / 385 = b by omega, show (b * 385 + (1 + k)) % 385 - 1 = k by omega]; exact h2
    · unfold flat; rw [if_neg (by omega), if_pos (by omega), show (b * 385 + (1 + k)) / 385 = b by omega, show (b * 385 + (1 + k)) % 385 - 1 = k by omega, va_up_self, addS_k hk, h1, Bool.or_true]
  · refine ⟨b * 385 + (193 + k), by omega, ?_, ?_⟩
    · unfold flat; rw [if_neg (by omega), if_neg (by omega), show (b * 385 + (193 + k)) / 385 = b by omega, show (b * 385 + (193 + k)) % 385 - 193 = k by omega]; exact h2
    · unfold flat; rw [if_neg (by omega), if_neg (by omega), show (b * 385 + (193 + k)) / 385 = b by omega, show (b * 385 + (193 + k)) % 385 - 193 = k by omega, va_up_self, addS_k hk, h1, Bool.or_true]
/-- nothing new came: nothing changed -/
theorem up_same {α : Type} {f : Nat → α} {b : Nat} {x : α} (h : x = f b) : va_up f b x = f := by
  funext j; unfold va_up; split
  · next e => rw [e]; exact h
  · rfl
theorem addS_same {S T : Nat → Bool} (h : ¬ ∃ k, k < 192 ∧ T k = true ∧ S k = false) : addS S T = S := by
  funext k; unfold addS; split
  · next hk =>
    cases hS : S k
    · cases hT : T k
      · rfl
      · exact absurd ⟨k, hk, hT, hS⟩ h
    · rfl
  · rfl
end
section
/-! PartsFlow.know -/
def CmP (G : GS) (K : KS) (x : Int32) (K' : KS) : Prop := (isN (gN G) x = false ∧ K' = K) ∨ (∃ q, q < gN G ∧ x = nI q ∧ ∃ ch : Bool, (ch = true ↔ kCh K = true ∨ kRc K q = false ∨ (∃ k, k < 192 ∧ kNw K k = true ∧ kLw K q k = false) ∨ (∃ k, k < 192 ∧ kNh K k = true ∧ kLh K q k = false)) ∧ K' = (kKn K, ch, va_up (kRc K) q true, kNw K, kNh K, va_up (kLw K) q (addS (kLw K q) (kNw K)), va_up (kLh K) q (addS (kLh K q) (kNh K))))
abbrev muS (K : KS) : Nat := muK (kRc K) (kLw K) (kLh K)
section CM
variable {V : VS} {G : GS} {K K' : KS} {x : Int32}
theorem CmP.kept (h : CmP G K x K') : kKn K' = kKn K ∧ kNw K' = kNw K ∧ kNh K' = kNh K := by
  rcases h with ⟨-, rfl⟩ | ⟨q, -, -, ch, -, rfl⟩ <;> exact ⟨rfl, rfl, rfl⟩
theorem CmP.KI (hV : VIn V) (h : CmP G K x K') (hI : KI V G (kRc K) (kLw K) (kLh K)) (hs : ∀ b, b < gN G → x = nI b → Snd V G (kNw K) (kNh K) b) : KI V G (kRc K') (kLw K') (kLh K') := by
  rcases h with ⟨-, rfl⟩ | ⟨q, hq, hx, ch, -, rfl⟩
  · exact hI
  · exact KI_come hV hI (hs q hq hx)
theorem CmP.mu (hn : gN G ≤ 120) (h : CmP G K x K') : muS K' ≤ muS K ∧ (kCh K' = true → kCh K = true ∨ muS K' < muS K) := by
  rcases h with ⟨-, rfl⟩ | ⟨q, hq, hx, ch, hc, rfl⟩
  · exact ⟨Nat.le_refl _, fun h => Or.inl h⟩
  · exact ⟨muK_le, fun h => (hc.mp h).imp id (fun z => muK_lt (by omega) z)⟩
theorem CmP.ch (hn : gN G ≤ 120) (h : CmP G K x K') (h0 : kCh K' = false) : K' = K ∧ ∀ b, b < gN G → x = nI b → kRc K b = true ∧ ∀ k, k < 192 → (kNw K k = true → kLw K b k = true) ∧ (kNh K k = true → kLh K b k = true) := by
  rcases h with ⟨h1, rfl⟩ | ⟨q, hq, hx, ch, hc, rfl⟩
  · refine ⟨rfl, fun b hb e => ?_⟩
    rw [e, isN_nI (by omega) hb] at h1; cases h1
  · have e0 : ch = false := h0
    subst e0
    have hno : ¬ (kCh K = true ∨ kRc K q = false ∨ (∃ k, k < 192 ∧ kNw K k = true ∧ kLw K q k = false) ∨ (∃ k, k < 192 ∧ kNh K k = true ∧ kLh K q k = false)) := fun z => absurd (hc.mpr z) (by decide)
    have n1 : kCh K = false := by cases e : kCh K; rfl; exact absurd (Or.inl e) hno
    have n2 : kRc K q = true := by cases e : kRc K q; exact absurd (Or.inr (Or.inl e)) hno; rfl
    have n3 : ¬ ∃ k, k < 192 ∧ kNw K k = true ∧ kLw K q k = false := fun z => hno (Or.inr (Or.inr (Or.inl z)))
    have n4 : ¬ ∃ k, k < 192 ∧ kNh K k = true ∧ kLh K q k = false := fun z => hno (Or.inr (Or.inr (Or.inr z)))
    refine ⟨?_, fun b hb e => ?_⟩
    · rw [addS_same n3, addS_same n4, up_same n2.symm, up_same rfl, up_same rfl, ← n1]
    · have eb : q = b := (nI_eq (by omega) (by omega)).mp (hx.symm.trans e)
      subst eb
      refine ⟨n2, fun k hk => ⟨fun z => ?_, fun z => ?_⟩⟩
      · cases e : kLw K q k; exact absurd ⟨k, hk, z, e⟩ n3; rfl
      · cases e : kLh K q k; exact absurd ⟨k, hk, z, e⟩ n4; rfl
end CM
def InvL (V : VS) (G : GS) (m0 i : Nat) (K : KS) : Prop := kKn K = true ∧ KI V G (kRc K) (kLw K) (kLh K) ∧ muS K ≤ m0 ∧ (kCh K = true → muS K < m0) ∧ (kCh K = false → ∀ a, a < i → Cl V G (kRc K) (kLw K) (kLh K) a)
theorem InvL.skip {V : VS} {G : GS} {m0 i : Nat} {K : KS} (h : InvL V G m0 i K) (hr : kRc K i = false) : InvL V G m0 (i + 1) K := by
  refine ⟨h.1, h.2.1, h.2.2.1, h.2.2.2.1, fun hc a ha => ?_⟩
  by_cases e : a = i
  · subst e; intro z; rw [hr] at z; cases z
  · exact h.2.2.2.2 hc a (by omega)
theorem InvL.step {V : VS} {G : GS} {m0 i : Nat} {K K2 K3 : KS} (hV : VIn V) (hn : gN G ≤ 120) (hi : i < gN G) (h : InvL V G m0 i K) (hr : kRc K i = true) (h2 : CmP G (kKn K, kCh K, kRc K, pW V G K i, pH V G K i, kLw K, kLh K) (gX G i) K2) (h3 : CmP G K2 (gY G i) K3) : InvL V G m0 (i + 1) K3 := by
  obtain ⟨a1, a2, a3, a4, a5⟩ := h
  have k2 := h2.kept
  have k3 := h3.kept
  have I2 := h2.KI hV a2 (fun b hb e => KI_snd hV a2 hi hr hb (Or.inl e))
  have I3 := h3.KI hV I2 (fun b hb e => by rw [k2.2.1, k2.2.2]; exact KI_snd hV a2 hi hr hb (Or.inr e))
  have m2 := h2.mu hn
  have m3 := h3.mu hn
  have ht : tot V ≤ 160 := hV.le160 _ (Nat.le_refl _)
  refine ⟨by rw [k3.1, k2.1]; exact a1, I3, ?_, fun hc => ?_, fun hc => ?_⟩
  · exact Nat.le_trans m3.1 (Nat.le_trans m2.1 a3)
  · rcases m3.2 hc with z | z
    · rcases m2.2 z with y | y
      · exact Nat.lt_of_le_of_lt m3.1 (Nat.lt_of_le_of_lt m2.1 (a4 y))
      · exact Nat.lt_of_le_of_lt m3.1 (Nat.lt_of_lt_of_le y a3)
    · exact Nat.lt_of_lt_of_le z (Nat.le_trans m2.1 a3)
  · obtain ⟨e3, c3⟩ := h3.ch hn hc
    subst e3
    obtain ⟨e2, c2⟩ := h2.ch hn hc
    subst e2
    intro a ha
    by_cases e : a = i
    · subst e
      intro _ b hb ed
      have hz : kRc K b = true ∧ ∀ k, k < 192 → (pW V G K a k = true → kLw K b k = true) ∧ (pH V G K a k = true → kLh K b k = true) := by
        rcases ed with ed | ed
        · exact c2 b hb ed
        · exact c3 b hb ed
      refine ⟨hz.1, fun k hk => ?_⟩
      have := hz.2 k (by omega)
      rw [pW_k (by omega), pH_k (by omega)] at this
      exact this
    · exact a5 hc a (by omega)
theorem KI_init {V : VS} {G : GS} {K K' : KS} {S S' : Nat → Bool} (hV : VIn V) (hn : gN G ≤ 120) (hz : ∀ p, p < 120 → kRc K p = false ∧ ∀ k, k < 192 → kLw K p k = false ∧ kLh K p k = false) (hw : kNw K = nwI V S (vN V)) (hh : kNh K = nhI V S' (vN V)) (h : CmP G K (nI 0) K') : KI V G (kRc K') (kLw K') (kLh K') := by
  have ht : tot V ≤ 160 := hV.le160 _ (Nat.le_refl _)
  rcases h with ⟨h1, rfl⟩ | ⟨q, hq, hx, ch, -, rfl⟩
  · have h0 : gN G = 0 := by
      rcases Nat.eq_zero_or_pos (gN G) with e | e
      · exact e
      · rw [isN_nI (by omega) e] at h1; cases h1
    exact ⟨fun p hp => by omega, fun p k hp => by omega, fun p k hp => by omega, fun p k hp => by omega, fun hp => by omega⟩
  · have e := (nI_eq (by omega) (by omega)).mp hx
    subst e
    have hL : ∀ p k, p < gN G → k < tot V → va_up (kLw K) 0 (addS (kLw K 0) (kNw K)) p k = (decide (p = 0) && !gK V k) := by
      intro p k hp hk
      by_cases e : p = 0
      · subst e; rw [va_up_self, addS_k (by omega), ((hz 0 (by omega)).2 k (by omega)).1, hw, nw0 hV hk]; simp
      · rw [va_up_ne _ _ e, ((hz p (by omega)).2 k (by omega)).1]; simp [e]
    have hH : ∀ p k, p < gN G → k < tot V → va_up (kLh K) 0 (addS (kLh K 0) (kNh K)) p k = (decide (p = 0) && gK V k) := by
      intro p k hp hk
      by_cases e : p = 0
      · subst e; rw [va_up_self, addS_k (by omega), ((hz 0 (by omega)).2 k (by omega)).2, hh, nh0 hV hk]; simp
      · rw [va_up_ne _ _ e, ((hz p (by omega)).2 k (by omega)).2]; simp [e]
    have hR : ∀ p, p < gN G → va_up (kRc K) 0 true p = decide (p = 0) := by
      intro p hp
      by_cases e : p = 0
      · subst e; rw [va_up_self]; simp
      · rw [va_up_ne _ _ e, (hz p (by omega)).1]; simp [e]
    show KI V G (va_up (kRc K) 0 true) (va_up (kLw K) 0 (addS (kLw K 0) (kNw K))) (va_up (kLh K) 0 (addS (kLh K 0) (kNh K)))
    refine ⟨fun p hp hr => ?_, fun p k hp hk => ⟨fun hr => ?_, fun hr => ?_⟩, fun p k hp hk hr => ?_, fun p k hp hk hr => ?_, fun h0 => ⟨?_, fun k hk => ⟨fun hg => ?_, fun hg => ?_⟩⟩⟩
    · rw [hR p hp] at hr
      rw [of_decide_eq_true hr]; exact RN_0 hq
    · rw [hL p k hp hk, Bool.and_eq_true] at hr
      have hg : gK V k = false := by simpa using hr.2
      have h9 := RP_0 (xs := gX G) (ys := gY G) (g := gK V k) (tr := trK V G k) hq
      rw [of_decide_eq_true hr.1, ← hg]; rw [hg] at h9 ⊢; exact h9
    · rw [hH p k hp hk, Bool.and_eq_true] at hr
      have hg : gK V k = true := hr.2
      have h9 := RP_0 (xs := gX G) (ys := gY G) (g := gK V k) (tr := trK V G k) hq
      rw [of_decide_eq_true hr.1]; rw [hg] at h9 ⊢; exact h9
    · rw [hR p hp] at hr
      rw [hL p k hp hk, hH p k hp hk, hr]
      cases gK V k <;> simp
    · rw [hR p hp]
      rw [hL p k hp hk, hH p k hp hk, Bool.and_eq_true, Bool.and_eq_true] at hr
      exact hr.elim (fun z => z.1) (fun z => z.1)
    · exact hR 0 hq
    · rw [hH 0 k hq hk, hg]; simp
    · rw [hL 0 k hq hk, hg]; simp
set_option maxHeartbeats 4000000 in
set_option maxRecDepth 100000 in
theorem c_PF_know (l : Launch) (D : va_G) (cA : Nat → ClassId) (ad : Nat → Nat) (V : VS) (G : GS) (K : KS) (hV : VIn V) (hn : gN G ≤ 120) (hG : ∀ q, q < gN G → okG V G q) (hk : kKn K = true → Knows V G K) : CtV l y_PF_know b_PF_know 2 none ({ frames := 2, cells := 0, slots := 0, locals := 46 }) D cA [.ref (ad 0)] (wPF cA ad V G K) (fun u => ∃ K', kKn K' = true ∧ Knows V G K' ∧ u = wPF cA ad V G K') := by
  refine CtV.of (by decide) (Nat.le_of_ble_eq_true rfl) ?_
  intro p e s m below meth c ls C hin hr h hl
  obtain ⟨hx, hb, hml, hown, hts, hK, hlk⟩ := id C
  have hNW := hK.2
  have hl : lv_has ls 2 [(0, .ref (ad 0))] := hl
  have hV20 := hV.1
  refine lv_aload_n hx hb d_PF_know_0 rfl (lv_at hl 0 rfl) ?_
  refine r_get C h fl_PF_61 0 rfl rfl d_PF_know_1 ?_
  refine lv_if_eq (tgt := 8) hx hb d_PF_know_4 (by decide) (fun c1 => ?_) (fun c1 => ?_)
  · refine lv_aload_n hx hb d_PF_know_8 rfl (lv_at hl 0 rfl) ?_
    refine lv_iconst (v := bI true) hx hb d_PF_know_9 (by decide) ?_
    refine r_put C h fl_PF_61 0 rfl rfl (bI_nar _) (bI_fit _) (Nat.le_of_ble_eq_true rfl) (ws' := wPF cA ad V G (K_kn K true)) (rfl) d_PF_know_10 (fun H locs h => ?_)
    refine lv_iconst (v := nI 0) hx hb d_PF_know_13 (by decide) ?_
    refine lv_istore_n (lv' := [(1, .int (nI 0)), (0, .ref (ad 0))]) hx hb d_PF_know_14 rfl hl (by decide) rfl (fun ls hl => ?_)
    refine w_loop (σ := Nat × KS) 15 (fun x => 120 - x.1) (fun x H locs ls => x.1 ≤ 120 ∧ kKn x.2 = true ∧ (∀ q, q < x.1 → kRc x.2 q = false ∧ ∀ k, k < 192 → kLw x.2 q k = false ∧ kLh x.2 q k = false) ∧ Hp (va_A (wPF cA ad V G K) s.heap.size) s D (wPF cA ad V G x.2) H locs ∧ lv_has ls 2 [(1, .int (nI x.1)), (0, .ref (ad 0))]) ?_ (0, K_kn K true) ⟨Nat.zero_le _, rfl, fun q hq => absurd hq (Nat.not_lt_zero _), h, hl⟩
    intro ⟨i, K1⟩ H locs ls ⟨hi, hkn, hz, h, hl⟩ ih1
    dsimp only at hi hkn hz h hl ih1
    refine lv_iload_n hx hb d_PF_know_15 rfl (lv_at hl 0 rfl) ?_
    refine lv_bipush (v := nI 120) hx hb d_PF_know_16 (by decide) ?_
    refine lv_icmp_ge (tgt := 52) hx hb d_PF_know_18 (by decide) (fun c2 => ?_) (fun c2 => ?_)
    · have hi120 : i = 120 := by rcases Nat.lt_or_ge i 120 with q | q; exact absurd c2 (nI_ge q (by decide)); omega
      subst hi120
      refine lv_aload_n hx hb d_PF_know_52 rfl (lv_at hl 1 rfl) ?_
      refine r_get C h fl_PF_50 0 rfl rfl d_PF_know_53 ?_
      refine r_callv (As := []) (rest := []) C h cv_PF_99 (c_PP_clear l D cA (wPF cA ad V G K1) 14 15 (ad 14) (ad 15) (kNw K1) rfl rfl) 14 rfl rfl rfl rfl hl.1 rfl (Nat.le_of_ble_eq_true rfl) rfl rfl ⟨Nat.le_of_ble_eq_true rfl, Nat.le_of_ble_eq_true rfl⟩ ⟨Nat.le_of_ble_eq_true rfl, Nat.le_of_ble_eq_true rfl⟩ d_PF_know_56 (fun u H locs hq h => ?_)
      subst hq
      have h : Hp (va_A (wPF cA ad V G K) s.heap.size) s D (wPF cA ad V G (kKn K1, kCh K1, kRc K1, clrS (kNw K1), kNh K1, kLw K1, kLh K1)) H locs := h
      refine lv_aload_n hx hb d_PF_know_59 rfl (lv_at hl 1 rfl) ?_
      refine r_get C h fl_PF_54 0 rfl rfl d_PF_know_60 ?_
      refine r_callv (As := []) (rest := []) C h cv_PF_99 (c_PP_clear l D cA (wPF cA ad V G (kKn K1, kCh K1, kRc K1, clrS (kNw K1), kNh K1, kLw K1, kLh K1)) 16 17 (ad 16) (ad 17) (kNh K1) rfl rfl) 16 rfl rfl rfl rfl hl.1 rfl (Nat.le_of_ble_eq_true rfl) rfl rfl ⟨Nat.le_of_ble_eq_true rfl, Nat.le_of_ble_eq_true rfl⟩ ⟨Nat.le_of_ble_eq_true rfl, Nat.le_of_ble_eq_true rfl⟩ d_PF_know_63 (fun u H locs hq h => ?_)
      subst hq
      have h : Hp (va_A (wPF cA ad V G K) s.heap.size) s D (wPF cA ad V G (kKn K1, kCh K1, kRc K1, clrS (kNw K1), clrS (kNh K1), kLw K1, kLh K1)) H locs := h
      refine lv_iconst (v := nI 0) hx hb d_PF_know_66 (by decide) ?_
      refine lv_istore_n (lv' := [(1, .int (nI 0)), (0, .ref (ad 0))]) hx hb d_PF_know_67 rfl hl (by decide) rfl (fun ls hl => ?_)
      refine w_loop (σ := Nat) 68 (fun i => vN V - i) (fun i H locs ls => i ≤ vN V ∧ Hp (va_A (wPF cA ad V G K) s.heap.size) s D (wPF cA ad V G (kKn K1, kCh K1, kRc K1, nwI V (clrS (kNw K1)) i, nhI V (clrS (kNh K1)) i, kLw K1, kLh K1)) H locs ∧ lv_has ls 2 [(1, .int (nI i)), (0, .ref (ad 0))]) ?_ 0 ⟨Nat.zero_le _, h, hl⟩
      intro i H locs ls ⟨hi, h, hl⟩ ih2
      refine lv_iload_n hx hb d_PF_know_68 rfl (lv_at hl 0 rfl) ?_
      refine lv_aload_n hx hb d_PF_know_69 rfl (lv_at hl 1 rfl) ?_
      refine r_get C h fl_PF_10 0 rfl rfl d_PF_know_70 ?_
      refine r_getN (q := (R_PV, F_PV, 4)) (ci := 1) (k := 3) C h hNW.2.2.2.1 rfl (by decide) rfl in_PV 1 rfl rfl d_PF_know_73 ?_
      refine lv_icmp_ge (tgt := 159) hx hb d_PF_know_76 (by decide) (fun c3 => ?_) (fun c3 => ?_)
      · have hiv : i = vN V := by rcases Nat.lt_or_ge i (vN V) with q | q; exact absurd c3 (nI_ge q (by omega)); omega
        subst hiv
        obtain ⟨K2, eK2⟩ : ∃ z : KS, z = (kKn K1, kCh K1, kRc K1, nwI V (clrS (kNw K1)) (vN V), nhI V (clrS (kNh K1)) (vN V), kLw K1, kLh K1) := ⟨_, rfl⟩
        rw [← eK2] at h
        refine lv_aload_n hx hb d_PF_know_159 rfl (lv_at hl 1 rfl) ?_
        refine lv_iconst (v := nI 0) hx hb d_PF_know_160 (by decide) ?_
        refine r_callv (As := [.int (nI 0)]) (rest := []) C h cv_PF_106 (c_PF_come l D cA ad V G K2 (nI 0) hn) 0 rfl rfl rfl rfl hl.1 rfl (Nat.le_of_ble_eq_true rfl) rfl rfl ⟨Nat.le_of_ble_eq_true rfl, Nat.le_of_ble_eq_true rfl⟩ ⟨Nat.le_of_ble_eq_true rfl, Nat.le_of_ble_eq_true rfl⟩ d_PF_know_161 (fun u H locs hq h => ?_)
        obtain ⟨K3, hCm, rfl⟩ : ∃ K3, CmP G K2 (nI 0) K3 ∧ u = wPF cA ad V G K3 := by
          rcases hq with ⟨z1, rfl⟩ | ⟨z, z1, z2, z3, z4, rfl⟩
          · exact ⟨K2, Or.inl ⟨z1, rfl⟩, rfl⟩
          · exact ⟨_, Or.inr ⟨z, z1, z2, z3, z4, rfl⟩, rfl⟩
        have hKI := KI_init (K := K2) hV hn (by rw [eK2]; exact hz) (by rw [eK2]) (by rw [eK2]) hCm
        have hkn3 : kKn K3 = true := by rw [hCm.kept.1, eK2]; exact hkn
        refine lv_aload_n hx hb d_PF_know_164 rfl (lv_at hl 1 rfl) ?_
        refine lv_iconst (v := bI true) hx hb d_PF_know_165 (by decide) ?_
        refine r_put C h fl_PF_83 0 rfl rfl (bI_nar _) (bI_fit _) (Nat.le_of_ble_eq_true rfl) (ws' := wPF cA ad V G (K_ch K3 true)) (rfl) d_PF_know_166 (fun H locs h => ?_)
        refine w_loop (σ := KS) 169 (fun K => 2 * muS K + (if kCh K then 1 else 0)) (fun K9 H locs ls => kKn K9 = true ∧ KI V G (kRc K9) (kLw K9) (kLh K9) ∧ (kCh K9 = false → ∀ a, a < gN G → Cl V G (kRc K9) (kLw K9) (kLh K9) a) ∧ Hp (va_A (wPF cA ad V G K) s.heap.size) s D (wPF cA ad V G K9) H locs ∧ lv_has ls 2 [(0, .ref (ad 0))]) ?_ (K_ch K3 true) ⟨hkn3, hKI, fun q => (by cases q), h, lv_sub hl [1] rfl⟩
        clear hKI hkn3 hCm hz hkn eK2 h hl
        intro K4 H locs ls ⟨hkn, hKI, hcl, h, hl⟩ ih3
        refine lv_aload_n hx hb d_PF_know_169 rfl (lv_at hl 0 rfl) ?_
        refine r_get C h fl_PF_83 0 rfl rfl d_PF_know_170 ?_
        refine lv_if_eq (tgt := 237) hx hb d_PF_know_173 (by decide) (fun c5 => ?_) (fun c5 => ?_)
        · exact r_vret C h hr ⟨K4, hkn, KI_knows hKI (hcl (bI_0.mp c5)), rfl⟩ d_PF_know_237
        · have hch : kCh K4 = true := bI_n0.mp c5
          refine lv_aload_n hx hb d_PF_know_176 rfl (lv_at hl 0 rfl) ?_
          refine lv_iconst (v := bI false) hx hb d_PF_know_177 (by decide) ?_
          refine r_put C h fl_PF_83 0 rfl rfl (bI_nar _) (bI_fit _) (Nat.le_of_ble_eq_true rfl) (ws' := wPF cA ad V G (K_ch K4 false)) (rfl) d_PF_know_178 (fun H locs h => ?_)
          refine lv_iconst (v := nI 0) hx hb d_PF_know_181 (by decide) ?_
          refine lv_istore_n (lv' := [(1, .int (nI 0)), (0, .ref (ad 0))]) hx hb d_PF_know_182 rfl hl (by decide) rfl (fun ls hl => ?_)
          refine w_loop (σ := Nat × KS) 183 (fun x => gN G - x.1) (fun x H locs ls => x.1 ≤ gN G ∧ InvL V G (muS K4) x.1 x.2 ∧ Hp (va_A (wPF cA ad V G K) s.heap.size) s D (wPF cA ad V G x.2) H locs ∧ lv_has ls 2 [(1, .int (nI x.1)), (0, .ref (ad 0))]) ?_ (0, K_ch K4 false) ⟨Nat.zero_le _, ⟨hkn, hKI, Nat.le_refl _, fun q => (by cases q), fun _ a ha => absurd ha (Nat.not_lt_zero _)⟩, h, hl⟩
          intro ⟨i, K5⟩ H locs ls ⟨hi, hI, h, hl⟩ ih4
          dsimp only at hi hI h hl ih4
          refine lv_iload_n hx hb d_PF_know_183 rfl (lv_at hl 0 rfl) ?_
          refine lv_aload_n hx hb d_PF_know_184 rfl (lv_at hl 1 rfl) ?_
          refine r_get C h fl_PF_76 0 rfl rfl d_PF_know_185 ?_
          refine lv_icmp_ge (tgt := 234) hx hb d_PF_know_188 (by decide) (fun c6 => ?_) (fun c6 => ?_)
          · have hin2 : i = gN G := by rcases Nat.lt_or_ge i (gN G) with q | q; exact absurd c6 (nI_ge q (by omega)); omega
            subst hin2
            refine lv_goto (tgt := 169) hx hb d_PF_know_234 (by decide) ?_
            refine ih3 K5 H locs ls ⟨hI.1, hI.2.1, hI.2.2.2.2, h, lv_sub hl [1] rfl⟩ ?_
            rw [if_pos hch]
            cases e5 : kCh K5
            · have := hI.2.2.1; simp; omega
            · have := hI.2.2.2.1 e5; simp; omega
          · have hlt : i < gN G := by rcases Nat.lt_or_ge i (gN G) with q | q; exact q; exact absurd (nI_le q (by omega)) c6
            refine lv_aload_n hx hb d_PF_know_191 rfl (lv_at hl 1 rfl) ?_
            refine r_get C h fl_PF_45 0 rfl rfl d_PF_know_192 ?_
            refine lv_iload_n hx hb d_PF_know_195 rfl (lv_at hl 0 rfl) ?_
            refine r_zald C h 11 rfl (i) (by omega) (rfl) (by decide) (v := bI (kRc K5 i)) (rfl) d_PF_know_196 ?_
            refine lv_if_ne (tgt := 203) hx hb d_PF_know_197 (by decide) (fun c7 => ?_) (fun c7 => ?_)
            · refine lv_aload_n hx hb d_PF_know_203 rfl (lv_at hl 1 rfl) ?_
              refine lv_iload_n hx hb d_PF_know_204 rfl (lv_at hl 0 rfl) ?_
              refine r_callv (As := [.int (nI i)]) (rest := []) C h cv_PF_110 (c_PF_pass l D cA ad V G K5 i (by omega) hV20 hV.le160 (hG i hlt)) 0 rfl rfl rfl rfl hl.1 rfl (Nat.le_of_ble_eq_true rfl) rfl rfl ⟨Nat.le_of_ble_eq_true rfl, Nat.le_of_ble_eq_true rfl⟩ ⟨Nat.le_of_ble_eq_true rfl, Nat.le_of_ble_eq_true rfl⟩ d_PF_know_205 (fun u H locs hq h => ?_)
              subst hq
              refine lv_aload_n hx hb d_PF_know_208 rfl (lv_at hl 1 rfl) ?_
              refine lv_aload_n hx hb d_PF_know_209 rfl (lv_at hl 1 rfl) ?_
              refine r_get C h fl_PF_30 0 rfl rfl d_PF_know_210 ?_
              refine lv_iload_n hx hb d_PF_know_213 rfl (lv_at hl 0 rfl) ?_
              refine r_iald C h 9 rfl (i) (by omega) (rfl) (by decide) (v := gX G i) (rfl) d_PF_know_214 ?_
              refine r_callv (As := [.int (gX G i)]) (rest := []) C h cv_PF_106 (c_PF_come l D cA ad V G (kKn K5, kCh K5, kRc K5, pW V G K5 i, pH V G K5 i, kLw K5, kLh K5) (gX G i) hn) 0 rfl rfl rfl rfl hl.1 rfl (Nat.le_of_ble_eq_true rfl) rfl rfl ⟨Nat.le_of_ble_eq_true rfl, Nat.le_of_ble_eq_true rfl⟩ ⟨Nat.le_of_ble_eq_true rfl, Nat.le_of_ble_eq_true rfl⟩ d_PF_know_215 (fun u H locs hq h => ?_)
              obtain ⟨K6, hC6, rfl⟩ : ∃ K6, CmP G (kKn K5, kCh K5, kRc K5, pW V G K5 i, pH V G K5 i, kLw K5, kLh K5) (gX G i) K6 ∧ u = wPF cA ad V G K6 := by
                rcases hq with ⟨z1, rfl⟩ | ⟨z, z1, z2, z3, z4, rfl⟩
                · exact ⟨_, Or.inl ⟨z1, rfl⟩, rfl⟩
                · exact ⟨_, Or.inr ⟨z, z1, z2, z3, z4, rfl⟩, rfl⟩
              refine lv_aload_n hx hb d_PF_know_218 rfl (lv_at hl 1 rfl) ?_
              refine lv_aload_n hx hb d_PF_know_219 rfl (lv_at hl 1 rfl) ?_
              refine r_get C h fl_PF_33 0 rfl rfl d_PF_know_220 ?_
              refine lv_iload_n hx hb d_PF_know_223 rfl (lv_at hl 0 rfl) ?_
              refine r_iald C h 10 rfl (i) (by omega) (rfl) (by decide) (v := gY G i) (rfl) d_PF_know_224 ?_
              refine r_callv (As := [.int (gY G i)]) (rest := []) C h cv_PF_106 (c_PF_come l D cA ad V G K6 (gY G i) hn) 0 rfl rfl rfl rfl hl.1 rfl (Nat.le_of_ble_eq_true rfl) rfl rfl ⟨Nat.le_of_ble_eq_true rfl, Nat.le_of_ble_eq_true rfl⟩ ⟨Nat.le_of_ble_eq_true rfl, Nat.le_of_ble_eq_true rfl⟩ d_PF_know_225 (fun u H locs hq h => ?_)
              obtain ⟨K7, hC7, rfl⟩ : ∃ K7, CmP G K6 (gY G i) K7 ∧ u = wPF cA ad V G K7 := by
                rcases hq with ⟨z1, rfl⟩ | ⟨z, z1, z2, z3, z4, rfl⟩
                · exact ⟨_, Or.inl ⟨z1, rfl⟩, rfl⟩
                · exact ⟨_, Or.inr ⟨z, z1, z2, z3, z4, rfl⟩, rfl⟩
              refine lv_iinc (v := nI (i + 1)) (lv' := [(1, .int (nI (i + 1))), (0, .ref (ad 0))]) hx hb d_PF_know_228 hl (k := 0) rfl (nI_iinc i) (by decide) rfl (fun ls hl => ?_)
              refine lv_goto (tgt := 183) hx hb d_PF_know_231 (by decide) ?_
              exact ih4 (i + 1, K7) H locs ls ⟨hlt, hI.step hV hn hlt (bI_n0.mp c7) hC6 hC7, h, hl⟩ (by show gN G - (i + 1) < gN G - i; omega)
            · refine lv_goto (tgt := 228) hx hb d_PF_know_200 (by decide) ?_
              refine lv_iinc (v := nI (i + 1)) (lv' := [(1, .int (nI (i + 1))), (0, .ref (ad 0))]) hx hb d_PF_know_228 hl (k := 0) rfl (nI_iinc i) (by decide) rfl (fun ls hl => ?_)
              refine lv_goto (tgt := 183) hx hb d_PF_know_231 (by decide) ?_
              exact ih4 (i + 1, K5) H locs ls ⟨hlt, hI.skip (bI_0.mp c7), h, hl⟩ (by show gN G - (i + 1) < gN G - i; omega)
      · have hlt : i < vN V := by rcases Nat.lt_or_ge i (vN V) with q | q; exact q; exact absurd (nI_le q (by omega)) c3
        have hmo := hV.2.2 i hlt
        have h160 := hV.le160 (i + 1) (by omega)
        refine lv_aload_n hx hb d_PF_know_79 rfl (lv_at hl 1 rfl) ?_
        refine r_get C h fl_PF_50 0 rfl rfl d_PF_know_80 ?_
        refine lv_aload_n hx hb d_PF_know_83 rfl (lv_at hl 1 rfl) ?_
        refine r_get C h fl_PF_10 0 rfl rfl d_PF_know_84 ?_
        refine r_getN (q := (R_PV, F_PV, 4)) (ci := 1) (k := 0) C h hNW.1 rfl (by decide) rfl in_PV 1 rfl rfl d_PF_know_87 ?_
        refine lv_iload_n hx hb d_PF_know_90 rfl (lv_at hl 0 rfl) ?_
        refine r_iald C h 2 rfl (i) (by omega) (rfl) (by decide) (v := nI (vF V i)) (rfl) d_PF_know_91 ?_
        refine lv_aload_n hx hb d_PF_know_92 rfl (lv_at hl 1 rfl) ?_
        refine r_get C h fl_PF_10 0 rfl rfl d_PF_know_93 ?_
        refine lv_iload_n hx hb d_PF_know_96 rfl (lv_at hl 0 rfl) ?_
        refine r_calli (As := [.int (nI i)]) (rest := [.int (nI (vF V i)), .ref (ad 14)]) C h cv_PF_69 (c_PV_parts l D cA ad V G (kKn K1, kCh K1, kRc K1, nwI V (clrS (kNw K1)) i, nhI V (clrS (kNh K1)) i, kLw K1, kLh K1) i (by omega) (by omega)) 1 rfl rfl rfl rfl hl.1 rfl (Nat.le_of_ble_eq_true rfl) rfl rfl ⟨Nat.le_of_ble_eq_true rfl, Nat.le_of_ble_eq_true rfl⟩ ⟨Nat.le_of_ble_eq_true rfl, Nat.le_of_ble_eq_true rfl⟩ d_PF_know_97 (fun r u H locs hq h => ?_)
        obtain ⟨rfl, rfl⟩ := hq
        refine lv_aload_n hx hb d_PF_know_100 rfl (lv_at hl 1 rfl) ?_
        refine r_get C h fl_PF_10 0 rfl rfl d_PF_know_101 ?_
        refine r_getN (q := (R_PV, F_PV, 4)) (ci := 1) (k := 2) C h hNW.2.2.1 rfl (by decide) rfl in_PV 1 rfl rfl d_PF_know_104 ?_
        refine lv_iload_n hx hb d_PF_know_107 rfl (lv_at hl 0 rfl) ?_
        refine r_zald C h 4 rfl (i) (by omega) (rfl) (by decide) (v := bI (vG V i)) (rfl) d_PF_know_108 ?_
        refine w_join 117 [.int (nI (vF V (i + 1) - vF V i)), .int (nI (vF V i)), .ref (ad 14)] (fun v => v = bI (!vG V i)) (fun hj => ?_) (fun v hv => ?_)
        · refine lv_if_ne (tgt := 116) hx hb d_PF_know_109 (by decide) (fun c4 => ?_) (fun c4 => ?_)
          · refine lv_iconst (v := 0) hx hb d_PF_know_116 (by decide) ?_
            exact hj 0 (by rw [bI_n0.mp c4]; rfl)
          · refine lv_iconst (v := 1) hx hb d_PF_know_112 (by decide) ?_
            refine lv_goto (tgt := 117) hx hb d_PF_know_113 (by decide) ?_
            exact hj 1 (by rw [bI_0.mp c4]; rfl)
        · subst hv
          refine r_callv (As := [.int (nI (vF V i)), .int (nI (vF V (i + 1) - vF V i)), .int (bI (!vG V i))]) (rest := []) C h cv_PF_95 (c_PP_set l D cA (wPF cA ad V G (kKn K1, kCh K1, kRc K1, nwI V (clrS (kNw K1)) i, nhI V (clrS (kNh K1)) i, kLw K1, kLh K1)) 14 15 (ad 14) (ad 15) (nwI V (clrS (kNw K1)) i) rfl rfl (vF V i) (vF V (i + 1) - vF V i) (!vG V i) (by omega)) 14 rfl rfl rfl rfl hl.1 rfl (Nat.le_of_ble_eq_true rfl) rfl rfl ⟨Nat.le_of_ble_eq_true rfl, Nat.le_of_ble_eq_true rfl⟩ ⟨Nat.le_of_ble_eq_true rfl, Nat.le_of_ble_eq_true rfl⟩ d_PF_know_117 (fun u H locs hq h => ?_)
          subst hq
          have h : Hp (va_A (wPF cA ad V G K) s.heap.size) s D (wPF cA ad V G (kKn K1, kCh K1, kRc K1, nwI V (clrS (kNw K1)) (i + 1), nhI V (clrS (kNh K1)) i, kLw K1, kLh K1)) H locs := h
          refine lv_aload_n hx hb d_PF_know_120 rfl (lv_at hl 1 rfl) ?_
          refine r_get C h fl_PF_54 0 rfl rfl d_PF_know_121 ?_
          refine lv_aload_n hx hb d_PF_know_124 rfl (lv_at hl 1 rfl) ?_
          refine r_get C h fl_PF_10 0 rfl rfl d_PF_know_125 ?_
          refine r_getN (q := (R_PV, F_PV, 4)) (ci := 1) (k := 0) C h hNW.1 rfl (by decide) rfl in_PV 1 rfl rfl d_PF_know_128 ?_
          refine lv_iload_n hx hb d_PF_know_131 rfl (lv_at hl 0 rfl) ?_
          refine r_iald C h 2 rfl (i) (by omega) (rfl) (by decide) (v := nI (vF V i)) (rfl) d_PF_know_132 ?_
          refine lv_aload_n hx hb d_PF_know_133 rfl (lv_at hl 1 rfl) ?_
          refine r_get C h fl_PF_10 0 rfl rfl d_PF_know_134 ?_
          refine lv_iload_n hx hb d_PF_know_137 rfl (lv_at hl 0 rfl) ?_
          refine r_calli (As := [.int (nI i)]) (rest := [.int (nI (vF V i)), .ref (ad 16)]) C h cv_PF_69 (c_PV_parts l D cA ad V G (kKn K1, kCh K1, kRc K1, nwI V (clrS (kNw K1)) (i + 1), nhI V (clrS (kNh K1)) i, kLw K1, kLh K1) i (by omega) (by omega)) 1 rfl rfl rfl rfl hl.1 rfl (Nat.le_of_ble_eq_true rfl) rfl rfl ⟨Nat.le_of_ble_eq_true rfl, Nat.le_of_ble_eq_true rfl⟩ ⟨Nat.le_of_ble_eq_true rfl, Nat.le_of_ble_eq_true rfl⟩ d_PF_know_138 (fun r u H locs hq h => ?_)
          obtain ⟨rfl, rfl⟩ := hq
          refine lv_aload_n hx hb d_PF_know_141 rfl (lv_at hl 1 rfl) ?_
          refine r_get C h fl_PF_10 0 rfl rfl d_PF_know_142 ?_
          refine r_getN (q := (R_PV, F_PV, 4)) (ci := 1) (k := 2) C h hNW.2.2.1 rfl (by decide) rfl in_PV 1 rfl rfl d_PF_know_145 ?_
          refine lv_iload_n hx hb d_PF_know_148 rfl (lv_at hl 0 rfl) ?_
          refine r_zald C h 4 rfl (i) (by omega) (rfl) (by decide) (v := bI (vG V i)) (rfl) d_PF_know_149 ?_
          refine r_callv (As := [.int (nI (vF V i)), .int (nI (vF V (i + 1) - vF V i)), .int (bI (vG V i))]) (rest := []) C h cv_PF_95 (c_PP_set l D cA (wPF cA ad V G (kKn K1, kCh K1, kRc K1, nwI V (clrS (kNw K1)) (i + 1), nhI V (clrS (kNh K1)) i, kLw K1, kLh K1)) 16 17 (ad 16) (ad 17) (nhI V (clrS (kNh K1)) i) rfl rfl (vF V i) (vF V (i + 1) - vF V i) (vG V i) (by omega)) 16 rfl rfl rfl rfl hl.1 rfl (Nat.le_of_ble_eq_true rfl) rfl rfl ⟨Nat.le_of_ble_eq_true rfl, Nat.le_of_ble_eq_true rfl⟩ ⟨Nat.le_of_ble_eq_true rfl, Nat.le_of_ble_eq_true rfl⟩ d_PF_know_150 (fun u H locs hq h => ?_)
          subst hq
          have h : Hp (va_A (wPF cA ad V G K) s.heap.size) s D (wPF cA ad V G (kKn K1, kCh K1, kRc K1, nwI V (clrS (kNw K1)) (i + 1), nhI V (clrS (kNh K1)) (i + 1), kLw K1, kLh K1)) H locs := h
          refine lv_iinc (v := nI (i + 1)) (lv' := [(1, .int (nI (i + 1))), (0, .ref (ad 0))]) hx hb d_PF_know_153 hl (k := 0) rfl (nI_iinc i) (by decide) rfl (fun ls hl => ?_)
          refine lv_goto (tgt := 68) hx hb d_PF_know_156 (by decide) ?_
          exact ih2 (i + 1) H locs ls ⟨hlt, h, hl⟩ (by omega)
    · have hlt : i < 120 := by rcases Nat.lt_or_ge i 120 with q | q; exact q; exact absurd (nI_le q (by omega)) c2
      refine lv_aload_n hx hb d_PF_know_21 rfl (lv_at hl 1 rfl) ?_
      refine r_get C h fl_PF_38 0 rfl rfl d_PF_know_22 ?_
      refine lv_iload_n hx hb d_PF_know_25 rfl (lv_at hl 0 rfl) ?_
      refine r_qald C h 12 rfl (i) (hlt) (rfl) (by decide) (v := ad (18 + 4 * i)) (rfl) d_PF_know_26 ?_
      refine r_callv (As := []) (rest := []) C h cv_PF_99 (c_PP_clear l D cA (wPF cA ad V G K1) (18 + 4 * i) (19 + 4 * i) (ad (18 + 4 * i)) (ad (19 + 4 * i)) (kLw K1 i) (lk_w0 hlt) (lk_w1 hlt)) (18 + 4 * i) (lk_w0 hlt) rfl rfl rfl hl.1 rfl (Nat.le_of_ble_eq_true rfl) rfl rfl ⟨Nat.le_of_ble_eq_true rfl, Nat.le_of_ble_eq_true rfl⟩ ⟨Nat.le_of_ble_eq_true rfl, Nat.le_of_ble_eq_true rfl⟩ d_PF_know_27 (fun u H locs hq h => ?_)
      subst hq
      rw [st_w hlt] at h
      refine lv_aload_n hx hb d_PF_know_30 rfl (lv_at hl 1 rfl) ?_
      refine r_get C h fl_PF_42 0 rfl rfl d_PF_know_31 ?_
      refine lv_iload_n hx hb d_PF_know_34 rfl (lv_at hl 0 rfl) ?_
      refine r_qald C h 13 rfl (i) (hlt) (rfl) (by decide) (v := ad (20 + 4 * i)) (rfl) d_PF_know_35 ?_
      refine r_callv (As := []) (rest := []) C h cv_PF_99 (c_PP_clear l D cA (wPF cA ad V G (K_w K1 i (clrS (kLw K1 i)))) (20 + 4 * i) (21 + 4 * i) (ad (20 + 4 * i)) (ad (21 + 4 * i)) (kLh K1 i) (lk_h0 hlt) (lk_h1 hlt)) (20 + 4 * i) (lk_h0 hlt) rfl rfl rfl hl.1 rfl (Nat.le_of_ble_eq_true rfl) rfl rfl ⟨Nat.le_of_ble_eq_true rfl, Nat.le_of_ble_eq_true rfl⟩ ⟨Nat.le_of_ble_eq_true rfl, Nat.le_of_ble_eq_true rfl⟩ d_PF_know_36 (fun u H locs hq h => ?_)
      subst hq
      rw [st_h hlt] at h
      refine lv_aload_n hx hb d_PF_know_39 rfl (lv_at hl 1 rfl) ?_
      refine r_get C h fl_PF_45 0 rfl rfl d_PF_know_40 ?_
      refine lv_iload_n hx hb d_PF_know_43 rfl (lv_at hl 0 rfl) ?_
      refine lv_iconst (v := bI false) hx hb d_PF_know_44 (by decide) ?_
      refine r_zast C h 11 rfl (i) (hlt) (rfl) (by decide) (g := fun j => bI (va_up (kRc K1) i false j)) (upd_bI _ _ _) (ws' := wPF cA ad V G (kKn K1, kCh K1, va_up (kRc K1) i false, kNw K1, kNh K1, va_up (kLw K1) i (clrS (kLw K1 i)), va_up (kLh K1) i (clrS (kLh K1 i)))) (rfl) d_PF_know_45 (fun H locs h => ?_)
      refine lv_iinc (v := nI (i + 1)) (lv' := [(1, .int (nI (i + 1))), (0, .ref (ad 0))]) hx hb d_PF_know_46 hl (k := 0) rfl (nI_iinc i) (by decide) rfl (fun ls hl => ?_)
      refine lv_goto (tgt := 15) hx hb d_PF_know_49 (by decide) ?_
      refine ih1 (i + 1, (kKn K1, kCh K1, va_up (kRc K1) i false, kNw K1, kNh K1, va_up (kLw K1) i (clrS (kLw K1 i)), va_up (kLh K1) i (clrS (kLh K1 i)))) H locs ls ⟨hlt, hkn, fun q hq => ?_, h, hl⟩ (by show 120 - (i + 1) < 120 - i; omega)
      show va_up (kRc K1) i false q = false ∧ ∀ k, k < 192 → va_up (kLw K1) i (clrS (kLw K1 i)) q k = false ∧ va_up (kLh K1) i (clrS (kLh K1 i)) q k = false
      have hq9 : q < i + 1 := hq
      by_cases eq : q = i
      · subst eq
        rw [va_up_self, va_up_self, va_up_self]
        exact ⟨rfl, fun k hk => ⟨by unfold clrS; rw [if_pos hk], by unfold clrS; rw [if_pos hk]⟩⟩
      · rw [va_up_ne _ _ eq, va_up_ne _ _ eq, va_up_ne _ _ eq]
        exact hz q (by omega)
  · exact r_vret C h hr ⟨K, bI_n0.mp c1, hk (bI_n0.mp c1), rfl⟩ d_PF_know_7
end
section
/-! PartsFlow: isReached, without, having, fault, count -/
noncomputable def dcd (P : Prop) : Bool := @decide P (Classical.propDecidable P)
theorem dcd_t {P : Prop} : dcd P = true ↔ P := @decide_eq_true_iff P (Classical.propDecidable P)
theorem dcd_f {P : Prop} : dcd P = false ↔ ¬ P := by
  constructor
  · intro h q; rw [dcd_t.mpr q] at h; cases h
  · intro h; cases e : dcd P; rfl; exact absurd (dcd_t.mp e) h
theorem dcd_eq {P : Prop} {b : Bool} (h : b = true ↔ P) : b = dcd P := by
  cases hb : b
  · exact (dcd_f.mpr (fun q => by rw [h.mpr q] at hb; cases hb)).symm
  · exact (dcd_t.mpr (h.mp hb)).symm
theorem dcd_congr {P Q : Prop} (h : P ↔ Q) : dcd P = dcd Q := dcd_eq (dcd_t.trans h)
abbrev ixI (x : Int32) : Nat := x.toNatClampNeg
noncomputable def wR (V : VS) (G : GS) (p k : Nat) (w : Bool) : Bool := dcd (RP (gN G) (gX G) (gY G) (gK V k) (trK V G k) p w)
noncomputable def aReach (G : GS) (x : Int32) : Bool := isN (gN G) x && dcd (RN (gN G) (gX G) (gY G) (ixI x))
noncomputable def aBits (V : VS) (G : GS) (x y : Int32) (w : Bool) : Int32 := if isN (gN G) x = true ∧ isN (vN V) y = true then orB (fun q => wR V G (ixI x) (vF V (ixI y) + q) w) (vF V (ixI y + 1) - vF V (ixI y)) else 0
noncomputable def aFltP (V : VS) (G : GS) (p : Nat) : Int32 :=
  if dcd (RN (gN G) (gX G) (gY G) p) = false ∨ gD G p = 0 then 0
  else if gD G p = 2 ∨ gD G p = 3 then (if orB (fun q => wR V G p (vF V (gO G p) + gP G p + q) false) (gC G p) = 0 then 0 else 1)
  else if gD G p = 1 ∧ vO V (gO G p) = true then (if gC G p < vF V (gO G p + 1) - vF V (gO G p) then nI 3 else if orB (fun q => wR V G p (vF V (gO G p) + gP G p + q) true) (gC G p) = 0 then 0 else nI 2)
  else 0
noncomputable def aFault (V : VS) (G : GS) (x : Int32) : Int32 := if isN (gN G) x = true then aFltP V G (ixI x) else -1
def runI (is : Nat → Bool) : Nat → Int32 → Int32 → Int32 × Int32
  | 0, c, f => (c, f)
  | m + 1, c, f => runI is m (c + bI (is m)) (if is m then nI m else f)
theorem runI_congr {is is' : Nat → Bool} : ∀ m c f, (∀ j, j < m → is j = is' j) → runI is m c f = runI is' m c f
  | 0, _, _, _ => rfl
  | m + 1, c, f, h => by rw [runI, runI, h m (by omega), runI_congr m _ _ (fun j hj => h j (by omega))]
noncomputable def aIs (V : VS) (G : GS) (x : Int32) (p : Nat) : Bool := if x = 1 then dcd (RN (gN G) (gX G) (gY G) p) else decide (0 < aFltP V G p)
noncomputable def aCount (V : VS) (G : GS) (x : Int32) : Int32 :=
  if x < 0 ∨ nI 5 < x then -1 else if x = 0 then nI (gN G) else if nI 3 < x then (if x = nI 4 then nI (vN V) else nI (vF V (vN V)))
  else if x = nI 3 then (runI (aIs V G x) (gN G) 0 (-1)).2 else (runI (aIs V G x) (gN G) 0 (-1)).1
abbrev PFI (V : VS) (G : GS) (K : KS) : Prop := VIn V ∧ gN G ≤ 120 ∧ (∀ q, q < gN G → okG V G q) ∧ (kKn K = true → Knows V G K)
set_option maxHeartbeats 4000000 in
set_option maxRecDepth 100000 in
theorem c_PF_isReached (l : Launch) (D : va_G) (cA : Nat → ClassId) (ad : Nat → Nat) (V : VS) (G : GS) (K : KS) (x : Int32) (hI : PFI V G K) : CtI l y_PF_isReached b_PF_isReached 2 (some .boolean) ({ frames := 3, cells := 0, slots := 0, locals := 67 }) D cA [.ref (ad 0), .int x] (wPF cA ad V G K) (fun r u => r = bI (aReach G x) ∧ ∃ K', (kKn K' = true → Knows V G K') ∧ u = wPF cA ad V G K') := by
  refine CtI.of (by decide) (Nat.le_of_ble_eq_true rfl) ?_
  intro p e s m below meth c ls C hin hr h hl
  obtain ⟨hx, hb, hml, hown, hts, hK, hlk⟩ := id C
  have hNW := hK.2
  have hl : lv_has ls 2 [(0, .ref (ad 0)), (1, .int x)] := hl
  refine lv_aload_n hx hb d_PF_isReached_0 rfl (lv_at hl 0 rfl) ?_
  refine r_callv (As := []) (rest := []) C h cv_PF_113 (c_PF_know l D cA ad V G K hI.1 hI.2.1 hI.2.2.1 hI.2.2.2) 0 rfl rfl rfl rfl hl.1 rfl (Nat.le_of_ble_eq_true rfl) rfl rfl ⟨Nat.le_of_ble_eq_true rfl, Nat.le_of_ble_eq_true rfl⟩ ⟨Nat.le_of_ble_eq_true rfl, Nat.le_of_ble_eq_true rfl⟩ d_PF_isReached_1 (fun u H locs hq h => ?_)
  obtain ⟨K1, hk1, hK1, rfl⟩ := hq
  have hn := hI.2.1
  have hV := hI.1
  have hV20 := hV.1
  refine lv_aload_n hx hb d_PF_isReached_4 rfl (lv_at hl 0 rfl) ?_
  refine lv_iload_n hx hb d_PF_isReached_5 rfl (lv_at hl 1 rfl) ?_
  refine r_calli (As := [.int x]) (rest := []) C h cv_PF_80 (c_PF_isPoint l D cA ad V G K1 x) 0 rfl rfl rfl rfl hl.1 rfl (Nat.le_of_ble_eq_true rfl) rfl rfl ⟨Nat.le_of_ble_eq_true rfl, Nat.le_of_ble_eq_true rfl⟩ ⟨Nat.le_of_ble_eq_true rfl, Nat.le_of_ble_eq_true rfl⟩ d_PF_isReached_6 (fun r u H locs hq h => ?_)
  obtain ⟨rfl, rfl⟩ := hq
  refine lv_if_eq (tgt := 25) hx hb d_PF_isReached_9 (by decide) (fun c1 => ?_) (fun c1 => ?_)
  · refine lv_iconst (v := 0) hx hb d_PF_isReached_25 (by decide) ?_
    exact r_zret false C h hr rfl ⟨by unfold aReach; rw [bI_0.mp c1]; rfl, K1, fun _ => hK1, rfl⟩ d_PF_isReached_26
  · obtain ⟨q, hq, rfl⟩ := (isN_t (by omega)).mp (bI_n0.mp c1)
    have hR : kRc K1 q = dcd (RN (gN G) (gX G) (gY G) q) := dcd_eq (hK1.1 q hq)
    have hix : ixI (nI q) = q := nI_clamp (by omega)
    refine lv_aload_n hx hb d_PF_isReached_12 rfl (lv_at hl 0 rfl) ?_
    refine r_get C h fl_PF_45 0 rfl rfl d_PF_isReached_13 ?_
    refine lv_iload_n hx hb d_PF_isReached_16 rfl (lv_at hl 1 rfl) ?_
    refine r_zald C h 11 rfl (q) (by omega) (rfl) (by decide) (v := bI (kRc K1 q)) (rfl) d_PF_isReached_17 ?_
    refine lv_if_eq (tgt := 25) hx hb d_PF_isReached_18 (by decide) (fun c2 => ?_) (fun c2 => ?_)
    · refine lv_iconst (v := 0) hx hb d_PF_isReached_25 (by decide) ?_
      exact r_zret false C h hr rfl ⟨by unfold aReach; rw [hix, ← hR, bI_0.mp c2, Bool.and_false], K1, fun _ => hK1, rfl⟩ d_PF_isReached_26
    · refine lv_iconst (v := 1) hx hb d_PF_isReached_21 (by decide) ?_
      refine lv_goto (tgt := 26) hx hb d_PF_isReached_22 (by decide) ?_
      exact r_zret true C h hr rfl ⟨by unfold aReach; rw [hix, ← hR, bI_n0.mp c2, isN_nI (by omega) hq]; rfl, K1, fun _ => hK1, rfl⟩ d_PF_isReached_26
set_option maxHeartbeats 4000000 in
set_option maxRecDepth 100000 in
theorem c_PF_without (l : Launch) (D : va_G) (cA : Nat → ClassId) (ad : Nat → Nat) (V : VS) (G : GS) (K : KS) (x y : Int32) (hI : PFI V G K) : CtI l y_PF_without b_PF_without 3 (some .int) ({ frames := 3, cells := 0, slots := 0, locals := 67 }) D cA [.ref (ad 0), .int x, .int y] (wPF cA ad V G K) (fun r u => r = aBits V G x y false ∧ ∃ K', (kKn K' = true → Knows V G K') ∧ u = wPF cA ad V G K') := by
  refine CtI.of (by decide) (Nat.le_of_ble_eq_true rfl) ?_
  intro p e s m below meth c ls C hin hr h hl
  obtain ⟨hx, hb, hml, hown, hts, hK, hlk⟩ := id C
  have hNW := hK.2
  have hl : lv_has ls 3 [(0, .ref (ad 0)), (1, .int x), (2, .int y)] := hl
  refine lv_aload_n hx hb d_PF_without_0 rfl (lv_at hl 0 rfl) ?_
  refine r_callv (As := []) (rest := []) C h cv_PF_113 (c_PF_know l D cA ad V G K hI.1 hI.2.1 hI.2.2.1 hI.2.2.2) 0 rfl rfl rfl rfl hl.1 rfl (Nat.le_of_ble_eq_true rfl) rfl rfl ⟨Nat.le_of_ble_eq_true rfl, Nat.le_of_ble_eq_true rfl⟩ ⟨Nat.le_of_ble_eq_true rfl, Nat.le_of_ble_eq_true rfl⟩ d_PF_without_1 (fun u H locs hq h => ?_)
  obtain ⟨K1, hk1, hK1, rfl⟩ := hq
  have hn := hI.2.1
  have hV := hI.1
  have hV20 := hV.1
  refine lv_aload_n hx hb d_PF_without_4 rfl (lv_at hl 0 rfl) ?_
  refine lv_iload_n hx hb d_PF_without_5 rfl (lv_at hl 1 rfl) ?_
  refine r_calli (As := [.int x]) (rest := []) C h cv_PF_80 (c_PF_isPoint l D cA ad V G K1 x) 0 rfl rfl rfl rfl hl.1 rfl (Nat.le_of_ble_eq_true rfl) rfl rfl ⟨Nat.le_of_ble_eq_true rfl, Nat.le_of_ble_eq_true rfl⟩ ⟨Nat.le_of_ble_eq_true rfl, Nat.le_of_ble_eq_true rfl⟩ d_PF_without_6 (fun r u H locs hq h => ?_)
  obtain ⟨rfl, rfl⟩ := hq
  refine lv_if_eq (tgt := 52) hx hb d_PF_without_9 (by decide) (fun c1 => ?_) (fun c1 => ?_)
  · refine lv_iconst (v := 0) hx hb d_PF_without_52 (by decide) ?_
    exact r_iret C h hr ⟨by unfold aBits; rw [if_neg (fun z => by rw [bI_0.mp c1] at z; exact absurd z.1 (by decide))], K1, fun _ => hK1, rfl⟩ d_PF_without_53
  · refine lv_aload_n hx hb d_PF_without_12 rfl (lv_at hl 0 rfl) ?_
    refine r_get C h fl_PF_10 0 rfl rfl d_PF_without_13 ?_
    refine lv_iload_n hx hb d_PF_without_16 rfl (lv_at hl 2 rfl) ?_
    refine r_calli (As := [.int y]) (rest := []) C h cv_PF_65 (c_PV_is l D cA ad V G K1 y) 1 rfl rfl rfl rfl hl.1 rfl (Nat.le_of_ble_eq_true rfl) rfl rfl ⟨Nat.le_of_ble_eq_true rfl, Nat.le_of_ble_eq_true rfl⟩ ⟨Nat.le_of_ble_eq_true rfl, Nat.le_of_ble_eq_true rfl⟩ d_PF_without_17 (fun r u H locs hq h => ?_)
    obtain ⟨rfl, rfl⟩ := hq
    refine lv_if_eq (tgt := 52) hx hb d_PF_without_20 (by decide) (fun c2 => ?_) (fun c2 => ?_)
    · refine lv_iconst (v := 0) hx hb d_PF_without_52 (by decide) ?_
      exact r_iret C h hr ⟨by unfold aBits; rw [if_neg (fun z => by rw [bI_0.mp c2] at z; exact absurd z.2 (by decide))], K1, fun _ => hK1, rfl⟩ d_PF_without_53
    · obtain ⟨q, hq, rfl⟩ := (isN_t (by omega)).mp (bI_n0.mp c1)
      obtain ⟨v, hv, rfl⟩ := (isN_t (by omega)).mp (bI_n0.mp c2)
      have hq120 : q < 120 := by omega
      have hmo := hV.2.2 v hv
      have h160 := hV.le160 (v + 1) (by omega)
      have hmt : vF V (v + 1) ≤ tot V := hV.mono (v + 1) (vN V) (by omega) (Nat.le_refl _)
      have hix : ixI (nI q) = q := nI_clamp (by omega)
      have hiv : ixI (nI v) = v := nI_clamp (by omega)
      refine lv_aload_n hx hb d_PF_without_23 rfl (lv_at hl 0 rfl) ?_
      refine r_get C h fl_PF_38 0 rfl rfl d_PF_without_24 ?_
      refine lv_iload_n hx hb d_PF_without_27 rfl (lv_at hl 1 rfl) ?_
      refine r_qald C h 12 rfl (q) (hq120) (rfl) (by decide) (v := ad (18 + 4 * q)) (rfl) d_PF_without_28 ?_
      refine lv_aload_n hx hb d_PF_without_29 rfl (lv_at hl 0 rfl) ?_
      refine r_get C h fl_PF_10 0 rfl rfl d_PF_without_30 ?_
      refine r_getN (q := (R_PV, F_PV, 4)) (ci := 1) (k := 0) C h hNW.1 rfl (by decide) rfl in_PV 1 rfl rfl d_PF_without_33 ?_
      refine lv_iload_n hx hb d_PF_without_36 rfl (lv_at hl 2 rfl) ?_
      refine r_iald C h 2 rfl (v) (by omega) (rfl) (by decide) (v := nI (vF V v)) (rfl) d_PF_without_37 ?_
      refine lv_aload_n hx hb d_PF_without_38 rfl (lv_at hl 0 rfl) ?_
      refine r_get C h fl_PF_10 0 rfl rfl d_PF_without_39 ?_
      refine lv_iload_n hx hb d_PF_without_42 rfl (lv_at hl 2 rfl) ?_
      refine r_calli (As := [.int (nI v)]) (rest := [.int (nI (vF V v)), .ref (ad (18 + 4 * q))]) C h cv_PF_69 (c_PV_parts l D cA ad V G K1 v (by omega) (by omega)) 1 rfl rfl rfl rfl hl.1 rfl (Nat.le_of_ble_eq_true rfl) rfl rfl ⟨Nat.le_of_ble_eq_true rfl, Nat.le_of_ble_eq_true rfl⟩ ⟨Nat.le_of_ble_eq_true rfl, Nat.le_of_ble_eq_true rfl⟩ d_PF_without_43 (fun r u H locs hq h => ?_)
      obtain ⟨rfl, rfl⟩ := hq
      refine r_calli (As := [.int (nI (vF V v)), .int (nI (vF V (v + 1) - vF V v))]) (rest := []) C h cv_PF_116 (c_PP_bits l D cA (wPF cA ad V G K1) (18 + 4 * q) (19 + 4 * q) (ad (18 + 4 * q)) (ad (19 + 4 * q)) (kLw K1 q) (lk_w0 hq120) (lk_w1 hq120) (vF V v) (vF V (v + 1) - vF V v) (by omega) (by omega)) (18 + 4 * q) (lk_w0 hq120) rfl rfl rfl hl.1 rfl (Nat.le_of_ble_eq_true rfl) rfl rfl ⟨Nat.le_of_ble_eq_true rfl, Nat.le_of_ble_eq_true rfl⟩ ⟨Nat.le_of_ble_eq_true rfl, Nat.le_of_ble_eq_true rfl⟩ d_PF_without_46 (fun r u H locs hq h => ?_)
      obtain ⟨rfl, rfl⟩ := hq
      refine lv_goto (tgt := 53) hx hb d_PF_without_49 (by decide) ?_
      refine r_iret C h hr ⟨?_, K1, fun _ => hK1, rfl⟩ d_PF_without_53
      unfold aBits
      rw [if_pos ⟨isN_nI (by omega) hq, isN_nI (by omega) hv⟩, hix, hiv]
      exact orB_congr _ (fun k hk => dcd_eq (hK1.2 q (vF V v + k) hq (by omega)).1)
set_option maxHeartbeats 4000000 in
set_option maxRecDepth 100000 in
theorem c_PF_having (l : Launch) (D : va_G) (cA : Nat → ClassId) (ad : Nat → Nat) (V : VS) (G : GS) (K : KS) (x y : Int32) (hI : PFI V G K) : CtI l y_PF_having b_PF_having 3 (some .int) ({ frames := 3, cells := 0, slots := 0, locals := 67 }) D cA [.ref (ad 0), .int x, .int y] (wPF cA ad V G K) (fun r u => r = aBits V G x y true ∧ ∃ K', (kKn K' = true → Knows V G K') ∧ u = wPF cA ad V G K') := by
  refine CtI.of (by decide) (Nat.le_of_ble_eq_true rfl) ?_
  intro p e s m below meth c ls C hin hr h hl
  obtain ⟨hx, hb, hml, hown, hts, hK, hlk⟩ := id C
  have hNW := hK.2
  have hl : lv_has ls 3 [(0, .ref (ad 0)), (1, .int x), (2, .int y)] := hl
  refine lv_aload_n hx hb d_PF_having_0 rfl (lv_at hl 0 rfl) ?_
  refine r_callv (As := []) (rest := []) C h cv_PF_113 (c_PF_know l D cA ad V G K hI.1 hI.2.1 hI.2.2.1 hI.2.2.2) 0 rfl rfl rfl rfl hl.1 rfl (Nat.le_of_ble_eq_true rfl) rfl rfl ⟨Nat.le_of_ble_eq_true rfl, Nat.le_of_ble_eq_true rfl⟩ ⟨Nat.le_of_ble_eq_true rfl, Nat.le_of_ble_eq_true rfl⟩ d_PF_having_1 (fun u H locs hq h => ?_)
  obtain ⟨K1, hk1, hK1, rfl⟩ := hq
  have hn := hI.2.1
  have hV := hI.1
  have hV20 := hV.1
  refine lv_aload_n hx hb d_PF_having_4 rfl (lv_at hl 0 rfl) ?_
  refine lv_iload_n hx hb d_PF_having_5 rfl (lv_at hl 1 rfl) ?_
  refine r_calli (As := [.int x]) (rest := []) C h cv_PF_80 (c_PF_isPoint l D cA ad V G K1 x) 0 rfl rfl rfl rfl hl.1 rfl (Nat.le_of_ble_eq_true rfl) rfl rfl ⟨Nat.le_of_ble_eq_true rfl, Nat.le_of_ble_eq_true rfl⟩ ⟨Nat.le_of_ble_eq_true rfl, Nat.le_of_ble_eq_true rfl⟩ d_PF_having_6 (fun r u H locs hq h => ?_)
  obtain ⟨rfl, rfl⟩ := hq
  refine lv_if_eq (tgt := 52) hx hb d_PF_having_9 (by decide) (fun c1 => ?_) (fun c1 => ?_)
  · refine lv_iconst (v := 0) hx hb d_PF_having_52 (by decide) ?_
    exact r_iret C h hr ⟨by unfold aBits; rw [if_neg (fun z => by rw [bI_0.mp c1] at z; exact absurd z.1 (by decide))], K1, fun _ => hK1, rfl⟩ d_PF_having_53
  · refine lv_aload_n hx hb d_PF_having_12 rfl (lv_at hl 0 rfl) ?_
    refine r_get C h fl_PF_10 0 rfl rfl d_PF_having_13 ?_
    refine lv_iload_n hx hb d_PF_having_16 rfl (lv_at hl 2 rfl) ?_
    refine r_calli (As := [.int y]) (rest := []) C h cv_PF_65 (c_PV_is l D cA ad V G K1 y) 1 rfl rfl rfl rfl hl.1 rfl (Nat.le_of_ble_eq_true rfl) rfl rfl ⟨Nat.le_of_ble_eq_true rfl, Nat.le_of_ble_eq_true rfl⟩ ⟨Nat.le_of_ble_eq_true rfl, Nat.le_of_ble_eq_true rfl⟩ d_PF_having_17 (fun r u H locs hq h => ?_)
    obtain ⟨rfl, rfl⟩ := hq
    refine lv_if_eq (tgt := 52) hx hb d_PF_having_20 (by decide) (fun c2 => ?_) (fun c2 => ?_)
    · refine lv_iconst (v := 0) hx hb d_PF_having_52 (by decide) ?_
      exact r_iret C h hr ⟨by unfold aBits; rw [if_neg (fun z => by rw [bI_0.mp c2] at z; exact absurd z.2 (by decide))], K1, fun _ => hK1, rfl⟩ d_PF_having_53
    · obtain ⟨q, hq, rfl⟩ := (isN_t (by omega)).mp (bI_n0.mp c1)
      obtain ⟨v, hv, rfl⟩ := (isN_t (by omega)).mp (bI_n0.mp c2)
      have hq120 : q < 120 := by omega
      have hmo := hV.2.2 v hv
      have h160 := hV.le160 (v + 1) (by omega)
      have hmt : vF V (v + 1) ≤ tot V := hV.mono (v + 1) (vN V) (by omega) (Nat.le_refl _)
      have hix : ixI (nI q) = q := nI_clamp (by omega)
      have hiv : ixI (nI v) = v := nI_clamp (by omega)
      refine lv_aload_n hx hb d_PF_having_23 rfl (lv_at hl 0 rfl) ?_
      refine r_get C h fl_PF_42 0 rfl rfl d_PF_having_24 ?_
      refine lv_iload_n hx hb d_PF_having_27 rfl (lv_at hl 1 rfl) ?_
      refine r_qald C h 13 rfl (q) (hq120) (rfl) (by decide) (v := ad (20 + 4 * q)) (rfl) d_PF_having_28 ?_
      refine lv_aload_n hx hb d_PF_having_29 rfl (lv_at hl 0 rfl) ?_
      refine r_get C h fl_PF_10 0 rfl rfl d_PF_having_30 ?_
      refine r_getN (q := (R_PV, F_PV, 4)) (ci := 1) (k := 0) C h hNW.1 rfl (by decide) rfl in_PV 1 rfl rfl d_PF_having_33 ?_
      refine lv_iload_n hx hb d_PF_having_36 rfl (lv_at hl 2 rfl) ?_
      refine r_iald C h 2 rfl (v) (by omega) (rfl) (by decide) (v := nI (vF V v)) (rfl) d_PF_having_37 ?_
      refine lv_aload_n hx hb d_PF_having_38 rfl (lv_at hl 0 rfl) ?_
      refine r_get C h fl_PF_10 0 rfl rfl d_PF_having_39 ?_
      refine lv_iload_n hx hb d_PF_having_42 rfl (lv_at hl 2 rfl) ?_
      refine r_calli (As := [.int (nI v)]) (rest := [.int (nI (vF V v)), .ref (ad (20 + 4 * q))]) C h cv_PF_69 (c_PV_parts l D cA ad V G K1 v (by omega) (by omega)) 1 rfl rfl rfl rfl hl.1 rfl (Nat.le_of_ble_eq_true rfl) rfl rfl ⟨Nat.le_of_ble_eq_true rfl, Nat.le_of_ble_eq_true rfl⟩ ⟨Nat.le_of_ble_eq_true rfl, Nat.le_of_ble_eq_true rfl⟩ d_PF_having_43 (fun r u H locs hq h => ?_)
      obtain ⟨rfl, rfl⟩ := hq
      refine r_calli (As := [.int (nI (vF V v)), .int (nI (vF V (v + 1) - vF V v))]) (rest := []) C h cv_PF_116 (c_PP_bits l D cA (wPF cA ad V G K1) (20 + 4 * q) (21 + 4 * q) (ad (20 + 4 * q)) (ad (21 + 4 * q)) (kLh K1 q) (lk_h0 hq120) (lk_h1 hq120) (vF V v) (vF V (v + 1) - vF V v) (by omega) (by omega)) (20 + 4 * q) (lk_h0 hq120) rfl rfl rfl hl.1 rfl (Nat.le_of_ble_eq_true rfl) rfl rfl ⟨Nat.le_of_ble_eq_true rfl, Nat.le_of_ble_eq_true rfl⟩ ⟨Nat.le_of_ble_eq_true rfl, Nat.le_of_ble_eq_true rfl⟩ d_PF_having_46 (fun r u H locs hq h => ?_)
      obtain ⟨rfl, rfl⟩ := hq
      refine lv_goto (tgt := 53) hx hb d_PF_having_49 (by decide) ?_
      refine r_iret C h hr ⟨?_, K1, fun _ => hK1, rfl⟩ d_PF_having_53
      unfold aBits
      rw [if_pos ⟨isN_nI (by omega) hq, isN_nI (by omega) hv⟩, hix, hiv]
      exact orB_congr _ (fun k hk => dcd_eq (hK1.2 q (vF V v + k) hq (by omega)).2)
set_option maxHeartbeats 4000000 in
set_option maxRecDepth 100000 in
theorem c_PF_fault (l : Launch) (D : va_G) (cA : Nat → ClassId) (ad : Nat → Nat) (V : VS) (G : GS) (K : KS) (x : Int32) (hI : PFI V G K) : CtI l y_PF_fault b_PF_fault 4 (some .int) ({ frames := 3, cells := 0, slots := 0, locals := 67 }) D cA [.ref (ad 0), .int x] (wPF cA ad V G K) (fun r u => r = aFault V G x ∧ ∃ K', (kKn K' = true → Knows V G K') ∧ u = wPF cA ad V G K') := by
  refine CtI.of (by decide) (Nat.le_of_ble_eq_true rfl) ?_
  intro p e s m below meth c ls C hin hr h hl
  obtain ⟨hx, hb, hml, hown, hts, hK, hlk⟩ := id C
  have hNW := hK.2
  have hl : lv_has ls 4 [(0, .ref (ad 0)), (1, .int x)] := hl
  refine lv_aload_n hx hb d_PF_fault_0 rfl (lv_at hl 0 rfl) ?_
  refine r_callv (As := []) (rest := []) C h cv_PF_113 (c_PF_know l D cA ad V G K hI.1 hI.2.1 hI.2.2.1 hI.2.2.2) 0 rfl rfl rfl rfl hl.1 rfl (Nat.le_of_ble_eq_true rfl) rfl rfl ⟨Nat.le_of_ble_eq_true rfl, Nat.le_of_ble_eq_true rfl⟩ ⟨Nat.le_of_ble_eq_true rfl, Nat.le_of_ble_eq_true rfl⟩ d_PF_fault_1 (fun u H locs hq h => ?_)
  obtain ⟨K1, hk1, hK1, rfl⟩ := hq
  have hn := hI.2.1
  have hV := hI.1
  have hV20 := hV.1
  refine lv_aload_n hx hb d_PF_fault_4 rfl (lv_at hl 0 rfl) ?_
  refine lv_iload_n hx hb d_PF_fault_5 rfl (lv_at hl 1 rfl) ?_
  refine r_calli (As := [.int x]) (rest := []) C h cv_PF_80 (c_PF_isPoint l D cA ad V G K1 x) 0 rfl rfl rfl rfl hl.1 rfl (Nat.le_of_ble_eq_true rfl) rfl rfl ⟨Nat.le_of_ble_eq_true rfl, Nat.le_of_ble_eq_true rfl⟩ ⟨Nat.le_of_ble_eq_true rfl, Nat.le_of_ble_eq_true rfl⟩ d_PF_fault_6 (fun r u H locs hq h => ?_)
  obtain ⟨rfl, rfl⟩ := hq
  refine lv_if_ne (tgt := 14) hx hb d_PF_fault_9 (by decide) (fun c1 => ?_) (fun c1 => ?_)
  · obtain ⟨q, hq, rfl⟩ := (isN_t (by omega)).mp (bI_n0.mp c1)
    have hq120 : q < 120 := by omega
    have hix : ixI (nI q) = q := nI_clamp (by omega)
    have hA : aFault V G (nI q) = aFltP V G q := by unfold aFault; rw [if_pos (isN_nI (by omega) hq), hix]
    rw [hA]
    have hR := hK1.1 q hq
    obtain ⟨hd5, hG⟩ := hI.2.2.1 q hq
    clear hA hix
    refine lv_aload_n hx hb d_PF_fault_14 rfl (lv_at hl 0 rfl) ?_
    refine r_get C h fl_PF_45 0 rfl rfl d_PF_fault_15 ?_
    refine lv_iload_n hx hb d_PF_fault_18 rfl (lv_at hl 1 rfl) ?_
    refine r_zald C h 11 rfl (q) (hq120) (rfl) (by decide) (v := bI (kRc K1 q)) (rfl) d_PF_fault_19 ?_
    refine lv_if_eq (tgt := 32) hx hb d_PF_fault_20 (by decide) (fun c2 => ?_) (fun c2 => ?_)
    · refine lv_iconst (v := 0) hx hb d_PF_fault_32 (by decide) ?_
      exact r_iret C h hr ⟨by unfold aFltP; rw [if_pos (Or.inl (dcd_f.mpr (fun z => by rw [hR.mpr z] at c2; exact absurd c2 (by decide))))], K1, fun _ => hK1, rfl⟩ d_PF_fault_33
    · have hRN : RN (gN G) (gX G) (gY G) q := hR.mp (bI_n0.mp c2)
      refine lv_aload_n hx hb d_PF_fault_23 rfl (lv_at hl 0 rfl) ?_
      refine r_get C h fl_PF_16 0 rfl rfl d_PF_fault_24 ?_
      refine lv_iload_n hx hb d_PF_fault_27 rfl (lv_at hl 1 rfl) ?_
      refine r_bald C h 5 rfl (q) (hq120) (rfl) (by decide) (v := nI (gD G q)) (rfl) d_PF_fault_28 ?_
      refine lv_if_ne (tgt := 34) hx hb d_PF_fault_29 (by decide) (fun c3 => ?_) (fun c3 => ?_)
      · have hd0 : ¬ gD G q = 0 := fun z => c3 (by rw [z]; exact nI_0)
        obtain ⟨hov, hfc⟩ := hG.resolve_left hd0
        have hmo := hV.2.2 (gO G q) hov
        have h160 := hV.le160 (gO G q + 1) (by omega)
        have hmt : vF V (gO G q + 1) ≤ tot V := hV.mono (gO G q + 1) (vN V) (by omega) (Nat.le_refl _)
        have hs0 : ¬ (dcd (RN (gN G) (gX G) (gY G) q) = false ∨ gD G q = 0) := fun z => z.elim (fun y => dcd_f.mp y hRN) hd0
        refine lv_aload_n hx hb d_PF_fault_34 rfl (lv_at hl 0 rfl) ?_
        refine r_get C h fl_PF_20 0 rfl rfl d_PF_fault_35 ?_
        refine lv_iload_n hx hb d_PF_fault_38 rfl (lv_at hl 1 rfl) ?_
        refine r_iald C h 6 rfl (q) (hq120) (rfl) (by decide) (v := nI (gO G q)) (rfl) d_PF_fault_39 ?_
        refine lv_istore_n (lv' := [(2, .int (nI (gO G q))), (0, .ref (ad 0)), (1, .int (nI q))]) hx hb d_PF_fault_40 rfl hl (by decide) rfl (fun ls hl => ?_)
        refine lv_aload_n hx hb d_PF_fault_41 rfl (lv_at hl 1 rfl) ?_
        refine r_get C h fl_PF_10 0 rfl rfl d_PF_fault_42 ?_
        refine r_getN (q := (R_PV, F_PV, 4)) (ci := 1) (k := 0) C h hNW.1 rfl (by decide) rfl in_PV 1 rfl rfl d_PF_fault_45 ?_
        refine lv_iload_n hx hb d_PF_fault_48 rfl (lv_at hl 0 rfl) ?_
        refine r_iald C h 2 rfl (gO G q) (by omega) (rfl) (by decide) (v := nI (vF V (gO G q))) (rfl) d_PF_fault_49 ?_
        refine lv_aload_n hx hb d_PF_fault_50 rfl (lv_at hl 1 rfl) ?_
        refine r_get C h fl_PF_24 0 rfl rfl d_PF_fault_51 ?_
        refine lv_iload_n hx hb d_PF_fault_54 rfl (lv_at hl 2 rfl) ?_
        refine r_iald C h 7 rfl (q) (hq120) (rfl) (by decide) (v := nI (gP G q)) (rfl) d_PF_fault_55 ?_
        refine lv_iadd hx hb d_PF_fault_56 ?_
        refine w_i (nI (vF V (gO G q) + gP G q)) (nI_add _ _) ?_
        refine lv_istore_n (lv' := [(3, .int (nI (vF V (gO G q) + gP G q))), (2, .int (nI (gO G q))), (0, .ref (ad 0)), (1, .int (nI q))]) hx hb d_PF_fault_57 rfl hl (by decide) rfl (fun ls hl => ?_)
        refine lv_aload_n hx hb d_PF_fault_58 rfl (lv_at hl 2 rfl) ?_
        refine r_get C h fl_PF_16 0 rfl rfl d_PF_fault_59 ?_
        refine lv_iload_n hx hb d_PF_fault_62 rfl (lv_at hl 3 rfl) ?_
        refine r_bald C h 5 rfl (q) (hq120) (rfl) (by decide) (v := nI (gD G q)) (rfl) d_PF_fault_63 ?_
        refine lv_iconst (v := nI 2) hx hb d_PF_fault_64 (by decide) ?_
        refine lv_icmp_eq (tgt := 78) hx hb d_PF_fault_65 (by decide) (fun c4 => ?_) (fun c4 => ?_)
        · have hm : gD G q = 2 ∨ gD G q = 3 := Or.inl ((nI_eq (by omega) (by decide)).mp c4)
          have hq9 := hq
          refine lv_aload_n hx hb d_PF_fault_78 rfl (lv_at hl 2 rfl) ?_
          refine r_get C h fl_PF_38 0 rfl rfl d_PF_fault_79 ?_
          refine lv_iload_n hx hb d_PF_fault_82 rfl (lv_at hl 3 rfl) ?_
          refine r_qald C h 12 rfl (q) (hq120) (rfl) (by decide) (v := ad (18 + 4 * q)) (rfl) d_PF_fault_83 ?_
          refine lv_iload_n hx hb d_PF_fault_84 rfl (lv_at hl 0 rfl) ?_
          refine lv_aload_n hx hb d_PF_fault_85 rfl (lv_at hl 2 rfl) ?_
          refine r_get C h fl_PF_27 0 rfl rfl d_PF_fault_86 ?_
          refine lv_iload_n hx hb d_PF_fault_89 rfl (lv_at hl 3 rfl) ?_
          refine r_iald C h 8 rfl (q) (hq120) (rfl) (by decide) (v := nI (gC G q)) (rfl) d_PF_fault_90 ?_
          refine r_calli (As := [.int (nI (vF V (gO G q) + gP G q)), .int (nI (gC G q))]) (rest := []) C h cv_PF_116 (c_PP_bits l D cA (wPF cA ad V G K1) (18 + 4 * q) (19 + 4 * q) (ad (18 + 4 * q)) (ad (19 + 4 * q)) (kLw K1 q) (lk_w0 hq120) (lk_w1 hq120) (vF V (gO G q) + gP G q) (gC G q) (by omega) (by omega)) (18 + 4 * q) (lk_w0 hq120) rfl rfl rfl hl.1 rfl (Nat.le_of_ble_eq_true rfl) rfl rfl ⟨Nat.le_of_ble_eq_true rfl, Nat.le_of_ble_eq_true rfl⟩ ⟨Nat.le_of_ble_eq_true rfl, Nat.le_of_ble_eq_true rfl⟩ d_PF_fault_91 (fun r u H locs hq h => ?_)
          obtain ⟨rfl, rfl⟩ := hq
          rw [show orB (fun k => kLw K1 q (vF V (gO G q) + gP G q + k)) (gC G q) = orB (fun k => wR V G q (vF V (gO G q) + gP G q + k) false) (gC G q) from orB_congr _ (fun k hk => dcd_eq (hK1.2 q (vF V (gO G q) + gP G q + k) hq9 (by omega)).1)]
          refine lv_if_eq (tgt := 101) hx hb d_PF_fault_94 (by decide) (fun c9 => ?_) (fun c9 => ?_)
          · refine lv_iconst (v := 0) hx hb d_PF_fault_101 (by decide) ?_
            exact r_iret C h hr ⟨by unfold aFltP; rw [if_neg hs0, if_pos hm, if_pos c9], K1, fun _ => hK1, rfl⟩ d_PF_fault_102
          · refine lv_iconst (v := 1) hx hb d_PF_fault_97 (by decide) ?_
            refine lv_goto (tgt := 102) hx hb d_PF_fault_98 (by decide) ?_
            exact r_iret C h hr ⟨by unfold aFltP; rw [if_neg hs0, if_pos hm, if_neg c9], K1, fun _ => hK1, rfl⟩ d_PF_fault_102
        · refine lv_aload_n hx hb d_PF_fault_68 rfl (lv_at hl 2 rfl) ?_
          refine r_get C h fl_PF_16 0 rfl rfl d_PF_fault_69 ?_
          refine lv_iload_n hx hb d_PF_fault_72 rfl (lv_at hl 3 rfl) ?_
          refine r_bald C h 5 rfl (q) (hq120) (rfl) (by decide) (v := nI (gD G q)) (rfl) d_PF_fault_73 ?_
          refine lv_iconst (v := nI 3) hx hb d_PF_fault_74 (by decide) ?_
          refine lv_icmp_ne (tgt := 103) hx hb d_PF_fault_75 (by decide) (fun c5 => ?_) (fun c5 => ?_)
          · have hm : ¬ (gD G q = 2 ∨ gD G q = 3) := fun z => z.elim (fun y => c4 (by rw [y])) (fun y => c5 (by rw [y]))
            refine lv_aload_n hx hb d_PF_fault_103 rfl (lv_at hl 2 rfl) ?_
            refine r_get C h fl_PF_16 0 rfl rfl d_PF_fault_104 ?_
            refine lv_iload_n hx hb d_PF_fault_107 rfl (lv_at hl 3 rfl) ?_
            refine r_bald C h 5 rfl (q) (hq120) (rfl) (by decide) (v := nI (gD G q)) (rfl) d_PF_fault_108 ?_
            refine lv_iconst (v := 1) hx hb d_PF_fault_109 (by decide) ?_
            refine lv_icmp_ne (tgt := 125) hx hb d_PF_fault_110 (by decide) (fun c6 => ?_) (fun c6 => ?_)
            · refine lv_iconst (v := 0) hx hb d_PF_fault_125 (by decide) ?_
              exact r_iret C h hr ⟨by unfold aFltP; rw [if_neg hs0, if_neg hm, if_neg (fun z => c6 (by rw [z.1]; rfl))], K1, fun _ => hK1, rfl⟩ d_PF_fault_126
            · have hd1 : gD G q = 1 := (nI_eq (by omega) (by decide)).mp (c6 : nI (gD G q) = nI 1)
              refine lv_aload_n hx hb d_PF_fault_113 rfl (lv_at hl 2 rfl) ?_
              refine r_get C h fl_PF_10 0 rfl rfl d_PF_fault_114 ?_
              refine r_getN (q := (R_PV, F_PV, 4)) (ci := 1) (k := 1) C h hNW.2.1 rfl (by decide) rfl in_PV 1 rfl rfl d_PF_fault_117 ?_
              refine lv_iload_n hx hb d_PF_fault_120 rfl (lv_at hl 1 rfl) ?_
              refine r_zald C h 3 rfl (gO G q) (by omega) (rfl) (by decide) (v := bI (vO V (gO G q))) (rfl) d_PF_fault_121 ?_
              refine lv_if_ne (tgt := 127) hx hb d_PF_fault_122 (by decide) (fun c7 => ?_) (fun c7 => ?_)
              · have hm2 : gD G q = 1 ∧ vO V (gO G q) = true := ⟨hd1, bI_n0.mp c7⟩
                have hq9 := hq
                refine lv_aload_n hx hb d_PF_fault_127 rfl (lv_at hl 2 rfl) ?_
                refine r_get C h fl_PF_27 0 rfl rfl d_PF_fault_128 ?_
                refine lv_iload_n hx hb d_PF_fault_131 rfl (lv_at hl 3 rfl) ?_
                refine r_iald C h 8 rfl (q) (hq120) (rfl) (by decide) (v := nI (gC G q)) (rfl) d_PF_fault_132 ?_
                refine lv_aload_n hx hb d_PF_fault_133 rfl (lv_at hl 2 rfl) ?_
                refine r_get C h fl_PF_10 0 rfl rfl d_PF_fault_134 ?_
                refine lv_iload_n hx hb d_PF_fault_137 rfl (lv_at hl 1 rfl) ?_
                refine r_calli (As := [.int (nI (gO G q))]) (rest := [.int (nI (gC G q))]) C h cv_PF_69 (c_PV_parts l D cA ad V G K1 (gO G q) (by omega) (by omega)) 1 rfl rfl rfl rfl hl.1 rfl (Nat.le_of_ble_eq_true rfl) rfl rfl ⟨Nat.le_of_ble_eq_true rfl, Nat.le_of_ble_eq_true rfl⟩ ⟨Nat.le_of_ble_eq_true rfl, Nat.le_of_ble_eq_true rfl⟩ d_PF_fault_138 (fun r u H locs hq h => ?_)
                obtain ⟨rfl, rfl⟩ := hq
                refine lv_icmp_ge (tgt := 146) hx hb d_PF_fault_141 (by decide) (fun c8 => ?_) (fun c8 => ?_)
                · have hge : ¬ gC G q < vF V (gO G q + 1) - vF V (gO G q) := fun z => nI_ge z (by omega) c8
                  refine lv_aload_n hx hb d_PF_fault_146 rfl (lv_at hl 2 rfl) ?_
                  refine r_get C h fl_PF_42 0 rfl rfl d_PF_fault_147 ?_
                  refine lv_iload_n hx hb d_PF_fault_150 rfl (lv_at hl 3 rfl) ?_
                  refine r_qald C h 13 rfl (q) (hq120) (rfl) (by decide) (v := ad (20 + 4 * q)) (rfl) d_PF_fault_151 ?_
                  refine lv_iload_n hx hb d_PF_fault_152 rfl (lv_at hl 0 rfl) ?_
                  refine lv_aload_n hx hb d_PF_fault_153 rfl (lv_at hl 2 rfl) ?_
                  refine r_get C h fl_PF_27 0 rfl rfl d_PF_fault_154 ?_
                  refine lv_iload_n hx hb d_PF_fault_157 rfl (lv_at hl 3 rfl) ?_
                  refine r_iald C h 8 rfl (q) (hq120) (rfl) (by decide) (v := nI (gC G q)) (rfl) d_PF_fault_158 ?_
                  refine r_calli (As := [.int (nI (vF V (gO G q) + gP G q)), .int (nI (gC G q))]) (rest := []) C h cv_PF_116 (c_PP_bits l D cA (wPF cA ad V G K1) (20 + 4 * q) (21 + 4 * q) (ad (20 + 4 * q)) (ad (21 + 4 * q)) (kLh K1 q) (lk_h0 hq120) (lk_h1 hq120) (vF V (gO G q) + gP G q) (gC G q) (by omega) (by omega)) (20 + 4 * q) (lk_h0 hq120) rfl rfl rfl hl.1 rfl (Nat.le_of_ble_eq_true rfl) rfl rfl ⟨Nat.le_of_ble_eq_true rfl, Nat.le_of_ble_eq_true rfl⟩ ⟨Nat.le_of_ble_eq_true rfl, Nat.le_of_ble_eq_true rfl⟩ d_PF_fault_159 (fun r u H locs hq h => ?_)
                  obtain ⟨rfl, rfl⟩ := hq
                  rw [show orB (fun k => kLh K1 q (vF V (gO G q) + gP G q + k)) (gC G q) = orB (fun k => wR V G q (vF V (gO G q) + gP G q + k) true) (gC G q) from orB_congr _ (fun k hk => dcd_eq (hK1.2 q (vF V (gO G q) + gP G q + k) hq9 (by omega)).2)]
                  refine lv_if_eq (tgt := 169) hx hb d_PF_fault_162 (by decide) (fun c9 => ?_) (fun c9 => ?_)
                  · refine lv_iconst (v := 0) hx hb d_PF_fault_169 (by decide) ?_
                    exact r_iret C h hr ⟨by unfold aFltP; rw [if_neg hs0, if_neg hm, if_pos hm2, if_neg hge, if_pos c9], K1, fun _ => hK1, rfl⟩ d_PF_fault_170
                  · refine lv_iconst (v := nI 2) hx hb d_PF_fault_165 (by decide) ?_
                    refine lv_goto (tgt := 170) hx hb d_PF_fault_166 (by decide) ?_
                    exact r_iret C h hr ⟨by unfold aFltP; rw [if_neg hs0, if_neg hm, if_pos hm2, if_neg hge, if_neg c9], K1, fun _ => hK1, rfl⟩ d_PF_fault_170
                · have hge : gC G q < vF V (gO G q + 1) - vF V (gO G q) := by rcases Nat.lt_or_ge (gC G q) (vF V (gO G q + 1) - vF V (gO G q)) with z | z; exact z; exact absurd (nI_le z (by omega)) c8
                  refine lv_iconst (v := nI 3) hx hb d_PF_fault_144 (by decide) ?_
                  exact r_iret C h hr ⟨by unfold aFltP; rw [if_neg hs0, if_neg hm, if_pos hm2, if_pos hge], K1, fun _ => hK1, rfl⟩ d_PF_fault_145
              · refine lv_iconst (v := 0) hx hb d_PF_fault_125 (by decide) ?_
                exact r_iret C h hr ⟨by unfold aFltP; rw [if_neg hs0, if_neg hm, if_neg (fun z => absurd z.2 (by rw [bI_0.mp c7]; decide))], K1, fun _ => hK1, rfl⟩ d_PF_fault_126
          · have hm : gD G q = 2 ∨ gD G q = 3 := Or.inr ((nI_eq (by omega) (by decide)).mp c5)
            have hq9 := hq
            refine lv_aload_n hx hb d_PF_fault_78 rfl (lv_at hl 2 rfl) ?_
            refine r_get C h fl_PF_38 0 rfl rfl d_PF_fault_79 ?_
            refine lv_iload_n hx hb d_PF_fault_82 rfl (lv_at hl 3 rfl) ?_
            refine r_qald C h 12 rfl (q) (hq120) (rfl) (by decide) (v := ad (18 + 4 * q)) (rfl) d_PF_fault_83 ?_
            refine lv_iload_n hx hb d_PF_fault_84 rfl (lv_at hl 0 rfl) ?_
            refine lv_aload_n hx hb d_PF_fault_85 rfl (lv_at hl 2 rfl) ?_
            refine r_get C h fl_PF_27 0 rfl rfl d_PF_fault_86 ?_
            refine lv_iload_n hx hb d_PF_fault_89 rfl (lv_at hl 3 rfl) ?_
            refine r_iald C h 8 rfl (q) (hq120) (rfl) (by decide) (v := nI (gC G q)) (rfl) d_PF_fault_90 ?_
            refine r_calli (As := [.int (nI (vF V (gO G q) + gP G q)), .int (nI (gC G q))]) (rest := []) C h cv_PF_116 (c_PP_bits l D cA (wPF cA ad V G K1) (18 + 4 * q) (19 + 4 * q) (ad (18 + 4 * q)) (ad (19 + 4 * q)) (kLw K1 q) (lk_w0 hq120) (lk_w1 hq120) (vF V (gO G q) + gP G q) (gC G q) (by omega) (by omega)) (18 + 4 * q) (lk_w0 hq120) rfl rfl rfl hl.1 rfl (Nat.le_of_ble_eq_true rfl) rfl rfl ⟨Nat.le_of_ble_eq_true rfl, Nat.le_of_ble_eq_true rfl⟩ ⟨Nat.le_of_ble_eq_true rfl, Nat.le_of_ble_eq_true rfl⟩ d_PF_fault_91 (fun r u H locs hq h => ?_)
            obtain ⟨rfl, rfl⟩ := hq
            rw [show orB (fun k => kLw K1 q (vF V (gO G q) + gP G q + k)) (gC G q) = orB (fun k => wR V G q (vF V (gO G q) + gP G q + k) false) (gC G q) from orB_congr _ (fun k hk => dcd_eq (hK1.2 q (vF V (gO G q) + gP G q + k) hq9 (by omega)).1)]
            refine lv_if_eq (tgt := 101) hx hb d_PF_fault_94 (by decide) (fun c9 => ?_) (fun c9 => ?_)
            · refine lv_iconst (v := 0) hx hb d_PF_fault_101 (by decide) ?_
              exact r_iret C h hr ⟨by unfold aFltP; rw [if_neg hs0, if_pos hm, if_pos c9], K1, fun _ => hK1, rfl⟩ d_PF_fault_102
            · refine lv_iconst (v := 1) hx hb d_PF_fault_97 (by decide) ?_
              refine lv_goto (tgt := 102) hx hb d_PF_fault_98 (by decide) ?_
              exact r_iret C h hr ⟨by unfold aFltP; rw [if_neg hs0, if_pos hm, if_neg c9], K1, fun _ => hK1, rfl⟩ d_PF_fault_102
      · refine lv_iconst (v := 0) hx hb d_PF_fault_32 (by decide) ?_
        exact r_iret C h hr ⟨by unfold aFltP; rw [if_pos (Or.inr ((nI_eq (by omega) (by decide)).mp (c3.trans nI_0.symm)))], K1, fun _ => hK1, rfl⟩ d_PF_fault_33
  · refine lv_iconst (v := (-1)) hx hb d_PF_fault_12 (by decide) ?_
    exact r_iret C h hr ⟨by unfold aFault; rw [if_neg (by rw [bI_0.mp c1]; decide)], K1, fun _ => hK1, rfl⟩ d_PF_fault_13
end
section
/-! PartsFlow.count -/
theorem nI_m1s (m : Nat) : nI m + Int32.ofInt (-1) = nI m - 1 := by rw [Int32.sub_eq_add_neg]; rfl
theorem nI_m1lt {m : Nat} (hm : m < 2 ^ 31) : nI m - 1 < 0 ↔ m = 0 := by
  cases m with
  | zero => exact ⟨fun _ => rfl, fun _ => by decide⟩
  | succ m => rw [nI_pred]; exact ⟨fun q => absurd q (nI_pos (by omega)), fun q => by omega⟩
set_option maxHeartbeats 4000000 in
set_option maxRecDepth 100000 in
theorem c_PF_count (l : Launch) (D : va_G) (cA : Nat → ClassId) (ad : Nat → Nat) (V : VS) (G : GS) (K : KS) (x : Int32) (hI : PFI V G K) : CtI l y_PF_count b_PF_count 6 (some .int) ({ frames := 4, cells := 0, slots := 0, locals := 90 }) D cA [.ref (ad 0), .int x] (wPF cA ad V G K) (fun r u => r = aCount V G x ∧ ∃ K', (kKn K' = true → Knows V G K') ∧ u = wPF cA ad V G K') := by
  refine CtI.of (by decide) (Nat.le_of_ble_eq_true rfl) ?_
  intro p e s m below meth c ls C hin hr h hl
  obtain ⟨hx, hb, hml, hown, hts, hK, hlk⟩ := id C
  have hNW := hK.2
  have hl : lv_has ls 6 [(0, .ref (ad 0)), (1, .int x)] := hl
  have hn := hI.2.1
  have hV := hI.1
  have hV20 := hV.1
  refine lv_iload_n hx hb d_PF_count_0 rfl (lv_at hl 1 rfl) ?_
  refine lv_if_lt (tgt := 9) hx hb d_PF_count_1 (by decide) (fun c1 => ?_) (fun c1 => ?_)
  · refine lv_iconst (v := (-1)) hx hb d_PF_count_9 (by decide) ?_
    exact r_iret C h hr ⟨by unfold aCount; rw [if_pos (Or.inl c1)], K, hI.2.2.2, rfl⟩ d_PF_count_10
  · refine lv_iload_n hx hb d_PF_count_4 rfl (lv_at hl 1 rfl) ?_
    refine lv_iconst (v := nI 5) hx hb d_PF_count_5 (by decide) ?_
    refine lv_icmp_le (tgt := 11) hx hb d_PF_count_6 (by decide) (fun c2 => ?_) (fun c2 => ?_)
    · have s1 : ¬ (x < 0 ∨ nI 5 < x) := fun z => z.elim c1 (fun y => Int32.not_lt.mpr c2 y)
      refine lv_iload_n hx hb d_PF_count_11 rfl (lv_at hl 1 rfl) ?_
      refine lv_if_ne (tgt := 20) hx hb d_PF_count_12 (by decide) (fun c3 => ?_) (fun c3 => ?_)
      · refine lv_iload_n hx hb d_PF_count_20 rfl (lv_at hl 1 rfl) ?_
        refine lv_iconst (v := nI 3) hx hb d_PF_count_21 (by decide) ?_
        refine lv_icmp_le (tgt := 56) hx hb d_PF_count_22 (by decide) (fun c4 => ?_) (fun c4 => ?_)
        · have s3 : ¬ nI 3 < x := Int32.not_lt.mpr c4
          refine lv_aload_n hx hb d_PF_count_56 rfl (lv_at hl 0 rfl) ?_
          refine r_callv (As := []) (rest := []) C h cv_PF_113 (c_PF_know l D cA ad V G K hV hn hI.2.2.1 hI.2.2.2) 0 rfl rfl rfl rfl hl.1 rfl (Nat.le_of_ble_eq_true rfl) rfl rfl ⟨Nat.le_of_ble_eq_true rfl, Nat.le_of_ble_eq_true rfl⟩ ⟨Nat.le_of_ble_eq_true rfl, Nat.le_of_ble_eq_true rfl⟩ d_PF_count_57 (fun u H locs hq h => ?_)
          obtain ⟨K1, hk1, hK1, rfl⟩ := hq
          refine lv_iconst (v := 0) hx hb d_PF_count_60 (by decide) ?_
          refine lv_istore_n (lv' := [(2, .int 0), (0, .ref (ad 0)), (1, .int x)]) hx hb d_PF_count_61 rfl hl (by decide) rfl (fun ls hl => ?_)
          refine lv_iconst (v := (-1)) hx hb d_PF_count_62 (by decide) ?_
          refine lv_istore_n (lv' := [(3, .int (-1)), (2, .int 0), (0, .ref (ad 0)), (1, .int x)]) hx hb d_PF_count_63 rfl hl (by decide) rfl (fun ls hl => ?_)
          refine lv_aload_n hx hb d_PF_count_64 rfl (lv_at hl 2 rfl) ?_
          refine r_get C h fl_PF_76 0 rfl rfl d_PF_count_65 ?_
          refine lv_iconst (v := 1) hx hb d_PF_count_68 (by decide) ?_
          refine lv_isub hx hb d_PF_count_69 ?_
          refine lv_istore (lv' := [(4, .int ((nI (gN G)) - 1)), (3, .int (-1)), (2, .int 0), (0, .ref (ad 0)), (1, .int x)]) hx hb d_PF_count_70 hl (by decide) rfl (fun ls hl => ?_)
          refine w_loop (σ := Nat × Int32 × Int32 × KS) 72 (fun y => y.1) (fun y H locs ls => y.1 ≤ gN G ∧ (kKn y.2.2.2 = true → Knows V G y.2.2.2) ∧ (x = 1 → Knows V G y.2.2.2) ∧ runI (aIs V G x) y.1 y.2.1 y.2.2.1 = runI (aIs V G x) (gN G) 0 (-1) ∧ Hp (va_A (wPF cA ad V G K) s.heap.size) s D (wPF cA ad V G y.2.2.2) H locs ∧ lv_has ls 6 [(4, .int (nI y.1 - 1)), (3, .int y.2.2.1), (2, .int y.2.1), (0, .ref (ad 0)), (1, .int x)]) ?_ (gN G, 0, -1, K1) ⟨Nat.le_refl _, fun _ => hK1, fun _ => hK1, rfl, h, hl⟩
          intro ⟨m, cn, fi, K2⟩ H locs ls ⟨hm, hk2, hk3, hrun, h, hl⟩ ih
          dsimp only at hm hk2 hk3 hrun h hl ih
          refine lv_iload hx hb d_PF_count_72 (lv_at hl 0 rfl) ?_
          refine lv_if_lt (tgt := 139) hx hb d_PF_count_74 (by decide) (fun c5 => ?_) (fun c5 => ?_)
          · have hm0 : m = 0 := (nI_m1lt (by omega)).mp c5
            subst hm0
            refine lv_iload_n hx hb d_PF_count_139 rfl (lv_at hl 4 rfl) ?_
            refine lv_iconst (v := nI 3) hx hb d_PF_count_140 (by decide) ?_
            refine lv_icmp_ne (tgt := 148) hx hb d_PF_count_141 (by decide) (fun c6 => ?_) (fun c6 => ?_)
            · refine lv_iload_n hx hb d_PF_count_148 rfl (lv_at hl 2 rfl) ?_
              exact r_iret C h hr ⟨by unfold aCount; rw [if_neg s1, if_neg c3, if_neg s3, if_neg c6, ← hrun]; rfl, K2, hk2, rfl⟩ d_PF_count_149
            · refine lv_iload_n hx hb d_PF_count_144 rfl (lv_at hl 1 rfl) ?_
              refine lv_goto (tgt := 149) hx hb d_PF_count_145 (by decide) ?_
              exact r_iret C h hr ⟨by unfold aCount; rw [if_neg s1, if_neg c3, if_neg s3, if_pos c6, ← hrun]; rfl, K2, hk2, rfl⟩ d_PF_count_149
          · obtain ⟨j, rfl⟩ : ∃ j, m = j + 1 := ⟨m - 1, by have : m ≠ 0 := fun z => c5 ((nI_m1lt (by omega)).mpr z); omega⟩
            rw [nI_pred] at hl
            have hj1 : j < gN G := by omega
            refine lv_iload_n hx hb d_PF_count_77 rfl (lv_at hl 4 rfl) ?_
            refine lv_iconst (v := 1) hx hb d_PF_count_78 (by decide) ?_
            refine lv_icmp_ne (tgt := 92) hx hb d_PF_count_79 (by decide) (fun c6 => ?_) (fun c6 => ?_)
            · refine lv_aload_n hx hb d_PF_count_92 rfl (lv_at hl 3 rfl) ?_
              refine lv_iload hx hb d_PF_count_93 (lv_at hl 0 rfl) ?_
              refine r_calli (As := [.int (nI j)]) (rest := []) C h cv_PF_123 (c_PF_fault l D cA ad V G K2 (nI j) ⟨hV, hn, hI.2.2.1, hk2⟩) 0 rfl rfl rfl rfl hl.1 rfl (Nat.le_of_ble_eq_true rfl) rfl rfl ⟨Nat.le_of_ble_eq_true rfl, Nat.le_of_ble_eq_true rfl⟩ ⟨Nat.le_of_ble_eq_true rfl, Nat.le_of_ble_eq_true rfl⟩ d_PF_count_95 (fun r u H locs hq h => ?_)
              obtain ⟨rfl, K4, hk4, rfl⟩ := hq
              have hA : aFault V G (nI j) = aFltP V G j := by unfold aFault; rw [if_pos (isN_nI (by omega) hj1), show ixI (nI j) = j from nI_clamp (by omega)]
              rw [hA]
              refine w_join 106 [] (fun v => v = bI (aIs V G x j)) (fun hj => ?_) (fun v hv => ?_)
              · refine lv_if_le (tgt := 105) hx hb d_PF_count_98 (by decide) (fun c9 => ?_) (fun c9 => ?_)
                · refine lv_iconst (v := 0) hx hb d_PF_count_105 (by decide) ?_
                  exact hj 0 (by unfold aIs; rw [if_neg c6, decide_eq_false (Int32.not_lt.mpr c9)]; rfl)
                · refine lv_iconst (v := 1) hx hb d_PF_count_101 (by decide) ?_
                  refine lv_goto (tgt := 106) hx hb d_PF_count_102 (by decide) ?_
                  exact hj 1 (by unfold aIs; rw [if_neg c6, decide_eq_true (Int32.not_le.mp c9)]; rfl)
              · subst hv
                obtain ⟨b, eb⟩ : ∃ b : Bool, b = aIs V G x j := ⟨_, rfl⟩
                rw [← eb]
                refine lv_istore (lv' := [(5, .int (bI b)), (4, .int (nI j)), (3, .int fi), (2, .int cn), (0, .ref (ad 0)), (1, .int x)]) hx hb d_PF_count_106 hl (by decide) rfl (fun ls hl => ?_)
                refine lv_iload_n hx hb d_PF_count_108 rfl (lv_at hl 3 rfl) ?_
                refine lv_iload hx hb d_PF_count_109 (lv_at hl 0 rfl) ?_
                refine w_join 119 [.int cn] (fun v => v = bI b) (fun hj => ?_) (fun v hv => ?_)
                · refine lv_if_eq (tgt := 118) hx hb d_PF_count_111 (by decide) (fun c7 => ?_) (fun c7 => ?_)
                  · refine lv_iconst (v := 0) hx hb d_PF_count_118 (by decide) ?_
                    exact hj 0 c7.symm
                  · refine lv_iconst (v := 1) hx hb d_PF_count_114 (by decide) ?_
                    refine lv_goto (tgt := 119) hx hb d_PF_count_115 (by decide) ?_
                    exact hj 1 (by rw [bI_n0.mp c7]; rfl)
                · subst hv
                  refine lv_iadd hx hb d_PF_count_119 ?_
                  refine lv_istore_n (lv' := [(2, .int (cn + (bI b))), (5, .int (bI b)), (4, .int (nI j)), (3, .int fi), (0, .ref (ad 0)), (1, .int x)]) hx hb d_PF_count_120 rfl hl (by decide) rfl (fun ls hl => ?_)
                  refine lv_iload hx hb d_PF_count_121 (lv_at hl 1 rfl) ?_
                  refine w_join 132 [] (fun v => v = if b then nI j else fi) (fun hj => ?_) (fun v hv => ?_)
                  · refine lv_if_eq (tgt := 131) hx hb d_PF_count_123 (by decide) (fun c8 => ?_) (fun c8 => ?_)
                    · refine lv_iload_n hx hb d_PF_count_131 rfl (lv_at hl 3 rfl) ?_
                      exact hj _ (by rw [if_neg (by rw [bI_0.mp c8]; decide)])
                    · refine lv_iload hx hb d_PF_count_126 (lv_at hl 2 rfl) ?_
                      refine lv_goto (tgt := 132) hx hb d_PF_count_128 (by decide) ?_
                      exact hj _ (by rw [if_pos (bI_n0.mp c8)])
                  · subst hv
                    refine lv_istore_n (lv' := [(3, .int (if b then nI j else fi)), (2, .int (cn + (bI b))), (5, .int (bI b)), (4, .int (nI j)), (0, .ref (ad 0)), (1, .int x)]) hx hb d_PF_count_132 rfl hl (by decide) rfl (fun ls hl => ?_)
                    refine lv_iinc (v := nI j - 1) (lv' := [(4, .int (nI j - 1)), (3, .int (if b then nI j else fi)), (2, .int (cn + (bI b))), (5, .int (bI b)), (0, .ref (ad 0)), (1, .int x)]) hx hb d_PF_count_133 hl (k := 3) rfl (nI_m1s j) (by decide) rfl (fun ls hl => ?_)
                    refine lv_goto (tgt := 72) hx hb d_PF_count_136 (by decide) ?_
                    exact ih (j, cn + bI b, if b then nI j else fi, K4) H locs ls ⟨by omega, hk4, fun z => absurd z c6, by rw [← hrun, runI, ← eb], h, lv_sub hl [0, 1, 2, 4, 5] rfl⟩ (by show j < j + 1; omega)
            · have hKn := hk3 c6
              refine lv_aload_n hx hb d_PF_count_82 rfl (lv_at hl 3 rfl) ?_
              refine r_get C h fl_PF_45 0 rfl rfl d_PF_count_83 ?_
              refine lv_iload hx hb d_PF_count_86 (lv_at hl 0 rfl) ?_
              refine r_zald C h 11 rfl (j) (by omega) (rfl) (by decide) (v := bI (kRc K2 j)) (rfl) d_PF_count_88 ?_
              refine w_i (bI (aIs V G x j)) (by unfold aIs; rw [if_pos c6, dcd_eq (hKn.1 j hj1)]) ?_
              refine lv_goto (tgt := 106) hx hb d_PF_count_89 (by decide) ?_
              obtain ⟨b, eb⟩ : ∃ b : Bool, b = aIs V G x j := ⟨_, rfl⟩
              rw [← eb]
              refine lv_istore (lv' := [(5, .int (bI b)), (4, .int (nI j)), (3, .int fi), (2, .int cn), (0, .ref (ad 0)), (1, .int x)]) hx hb d_PF_count_106 hl (by decide) rfl (fun ls hl => ?_)
              refine lv_iload_n hx hb d_PF_count_108 rfl (lv_at hl 3 rfl) ?_
              refine lv_iload hx hb d_PF_count_109 (lv_at hl 0 rfl) ?_
              refine w_join 119 [.int cn] (fun v => v = bI b) (fun hj => ?_) (fun v hv => ?_)
              · refine lv_if_eq (tgt := 118) hx hb d_PF_count_111 (by decide) (fun c7 => ?_) (fun c7 => ?_)
                · refine lv_iconst (v := 0) hx hb d_PF_count_118 (by decide) ?_
                  exact hj 0 c7.symm
                · refine lv_iconst (v := 1) hx hb d_PF_count_114 (by decide) ?_
                  refine lv_goto (tgt := 119) hx hb d_PF_count_115 (by decide) ?_
                  exact hj 1 (by rw [bI_n0.mp c7]; rfl)
              · subst hv
                refine lv_iadd hx hb d_PF_count_119 ?_
                refine lv_istore_n (lv' := [(2, .int (cn + (bI b))), (5, .int (bI b)), (4, .int (nI j)), (3, .int fi), (0, .ref (ad 0)), (1, .int x)]) hx hb d_PF_count_120 rfl hl (by decide) rfl (fun ls hl => ?_)
                refine lv_iload hx hb d_PF_count_121 (lv_at hl 1 rfl) ?_
                refine w_join 132 [] (fun v => v = if b then nI j else fi) (fun hj => ?_) (fun v hv => ?_)
                · refine lv_if_eq (tgt := 131) hx hb d_PF_count_123 (by decide) (fun c8 => ?_) (fun c8 => ?_)
                  · refine lv_iload_n hx hb d_PF_count_131 rfl (lv_at hl 3 rfl) ?_
                    exact hj _ (by rw [if_neg (by rw [bI_0.mp c8]; decide)])
                  · refine lv_iload hx hb d_PF_count_126 (lv_at hl 2 rfl) ?_
                    refine lv_goto (tgt := 132) hx hb d_PF_count_128 (by decide) ?_
                    exact hj _ (by rw [if_pos (bI_n0.mp c8)])
                · subst hv
                  refine lv_istore_n (lv' := [(3, .int (if b then nI j else fi)), (2, .int (cn + (bI b))), (5, .int (bI b)), (4, .int (nI j)), (0, .ref (ad 0)), (1, .int x)]) hx hb d_PF_count_132 rfl hl (by decide) rfl (fun ls hl => ?_)
                  refine lv_iinc (v := nI j - 1) (lv' := [(4, .int (nI j - 1)), (3, .int (if b then nI j else fi)), (2, .int (cn + (bI b))), (5, .int (bI b)), (0, .ref (ad 0)), (1, .int x)]) hx hb d_PF_count_133 hl (k := 3) rfl (nI_m1s j) (by decide) rfl (fun ls hl => ?_)
                  refine lv_goto (tgt := 72) hx hb d_PF_count_136 (by decide) ?_
                  exact ih (j, cn + bI b, if b then nI j else fi, K2) H locs ls ⟨by omega, hk2, hk3, by rw [← hrun, runI, ← eb], h, lv_sub hl [0, 1, 2, 4, 5] rfl⟩ (by show j < j + 1; omega)
        · have s3 : nI 3 < x := Int32.not_le.mp c4
          refine lv_iload_n hx hb d_PF_count_25 rfl (lv_at hl 1 rfl) ?_
          refine lv_iconst (v := nI 4) hx hb d_PF_count_26 (by decide) ?_
          refine lv_icmp_ne (tgt := 40) hx hb d_PF_count_27 (by decide) (fun c5 => ?_) (fun c5 => ?_)
          · refine lv_aload_n hx hb d_PF_count_40 rfl (lv_at hl 0 rfl) ?_
            refine r_get C h fl_PF_10 0 rfl rfl d_PF_count_41 ?_
            refine r_getN (q := (R_PV, F_PV, 4)) (ci := 1) (k := 0) C h hNW.1 rfl (by decide) rfl in_PV 1 rfl rfl d_PF_count_44 ?_
            refine lv_aload_n hx hb d_PF_count_47 rfl (lv_at hl 0 rfl) ?_
            refine r_get C h fl_PF_10 0 rfl rfl d_PF_count_48 ?_
            refine r_getN (q := (R_PV, F_PV, 4)) (ci := 1) (k := 3) C h hNW.2.2.2.1 rfl (by decide) rfl in_PV 1 rfl rfl d_PF_count_51 ?_
            refine r_iald C h 2 rfl (vN V) (by omega) (rfl) (by decide) (v := nI (vF V (vN V))) (rfl) d_PF_count_54 ?_
            exact r_iret C h hr ⟨by unfold aCount; rw [if_neg s1, if_neg c3, if_pos s3, if_neg c5], K, hI.2.2.2, rfl⟩ d_PF_count_55
          · refine lv_aload_n hx hb d_PF_count_30 rfl (lv_at hl 0 rfl) ?_
            refine r_get C h fl_PF_10 0 rfl rfl d_PF_count_31 ?_
            refine r_getN (q := (R_PV, F_PV, 4)) (ci := 1) (k := 3) C h hNW.2.2.2.1 rfl (by decide) rfl in_PV 1 rfl rfl d_PF_count_34 ?_
            refine lv_goto (tgt := 55) hx hb d_PF_count_37 (by decide) ?_
            exact r_iret C h hr ⟨by unfold aCount; rw [if_neg s1, if_neg c3, if_pos s3, if_pos c5], K, hI.2.2.2, rfl⟩ d_PF_count_55
      · refine lv_aload_n hx hb d_PF_count_15 rfl (lv_at hl 0 rfl) ?_
        refine r_get C h fl_PF_76 0 rfl rfl d_PF_count_16 ?_
        exact r_iret C h hr ⟨by unfold aCount; rw [if_neg s1, if_pos c3], K, hI.2.2.2, rfl⟩ d_PF_count_19
    · refine lv_iconst (v := (-1)) hx hb d_PF_count_9 (by decide) ?_
      exact r_iret C h hr ⟨by unfold aCount; rw [if_pos (Or.inr (Int32.not_le.mp c2))], K, hI.2.2.2, rfl⟩ d_PF_count_10
end
section
/-! PartsFlowModel: variable, point, next, clear, come -/
set_option maxHeartbeats 4000000 in
set_option maxRecDepth 100000 in
theorem c_PM_variable (l : Launch) (D : va_G) (cA : Nat → ClassId) (bd : Nat → Nat) (M : MS) (T : TS) (x : Int32) (b1 b2 : Bool) (hnv : mN M ≤ 20) : CtI l y_PM_variable b_PM_variable 4 (some .int) (rmZ) D cA [.ref (bd 0), .int x, .int (bI b1), .int (bI b2)] (wPM cA bd M T) (fun r u => (noV (mN M) x ∧ r = -1 ∧ u = wPM cA bd M T) ∨ (∃ k, okV (mN M) x k ∧ r = nI (mN M) ∧ u = wPM cA bd (mN M + 1, va_up (mP M) (mN M) k, va_up (mO M) (mN M) b1, va_up (mG M) (mN M) b2, mK M, mD M, mF M, mR M, mM M, mX M, mY M) T)) := by
  refine CtI.of (by decide) (Nat.le_of_ble_eq_true rfl) ?_
  intro p e s m below meth c ls C hin hr h hl
  obtain ⟨hx, hb, hml, hown, hts, hK, hlk⟩ := id C
  have hNW := hK.2
  have hl : lv_has ls 4 [(0, .ref (bd 0)), (1, .int x), (2, .int (bI b1)), (3, .int (bI b2))] := hl
  refine lv_iload_n hx hb d_PM_variable_0 rfl (lv_at hl 1 rfl) ?_
  refine lv_iconst (v := 1) hx hb d_PM_variable_1 (by decide) ?_
  refine lv_icmp_lt (tgt := 20) hx hb d_PM_variable_2 (by decide) (fun c1 => ?_) (fun c1 => ?_)
  · refine lv_iconst (v := (-1)) hx hb d_PM_variable_20 (by decide) ?_
    exact r_iret C h hr (Or.inl ⟨Or.inl c1, rfl, rfl⟩) d_PM_variable_21
  · refine lv_iload_n hx hb d_PM_variable_5 rfl (lv_at hl 1 rfl) ?_
    refine lv_bipush (v := nI 8) hx hb d_PM_variable_6 (by decide) ?_
    refine lv_icmp_gt (tgt := 20) hx hb d_PM_variable_8 (by decide) (fun c2 => ?_) (fun c2 => ?_)
    · refine lv_iconst (v := (-1)) hx hb d_PM_variable_20 (by decide) ?_
      exact r_iret C h hr (Or.inl ⟨Or.inr (Or.inl c2), rfl, rfl⟩) d_PM_variable_21
    · refine lv_aload_n hx hb d_PM_variable_11 rfl (lv_at hl 0 rfl) ?_
      refine r_get C h fl_PM_44 0 rfl rfl d_PM_variable_12 ?_
      refine lv_bipush (v := nI 20) hx hb d_PM_variable_15 (by decide) ?_
      refine lv_icmp_ne (tgt := 22) hx hb d_PM_variable_17 (by decide) (fun c3 => ?_) (fun c3 => ?_)
      · obtain ⟨k, rfl, k1, k8, hlt⟩ := okV_of hnv c1 c2 c3
        refine lv_aload_n hx hb d_PM_variable_22 rfl (lv_at hl 0 rfl) ?_
        refine r_get C h fl_PM_7 0 rfl rfl d_PM_variable_23 ?_
        refine lv_aload_n hx hb d_PM_variable_26 rfl (lv_at hl 0 rfl) ?_
        refine r_get C h fl_PM_44 0 rfl rfl d_PM_variable_27 ?_
        refine lv_iload_n hx hb d_PM_variable_30 rfl (lv_at hl 1 rfl) ?_
        refine r_iast C h 1 rfl (mN M) (hlt) (rfl) (by decide) (g := fun j => nI (va_up (mP M) (mN M) k j)) (upd_nI _ _ _) (ws' := wPM cA bd (mN M, va_up (mP M) (mN M) k, mO M, mG M, mK M, mD M, mF M, mR M, mM M, mX M, mY M) T) (rfl) d_PM_variable_31 (fun H locs h => ?_)
        refine lv_aload_n hx hb d_PM_variable_32 rfl (lv_at hl 0 rfl) ?_
        refine r_get C h fl_PM_13 0 rfl rfl d_PM_variable_33 ?_
        refine lv_aload_n hx hb d_PM_variable_36 rfl (lv_at hl 0 rfl) ?_
        refine r_get C h fl_PM_44 0 rfl rfl d_PM_variable_37 ?_
        refine lv_iload_n hx hb d_PM_variable_40 rfl (lv_at hl 2 rfl) ?_
        refine r_zast C h 2 rfl (mN M) (hlt) (rfl) (by decide) (g := fun j => bI (va_up (mO M) (mN M) b1 j)) (upd_bI _ _ _) (ws' := wPM cA bd (mN M, va_up (mP M) (mN M) k, va_up (mO M) (mN M) b1, mG M, mK M, mD M, mF M, mR M, mM M, mX M, mY M) T) (rfl) d_PM_variable_41 (fun H locs h => ?_)
        refine lv_aload_n hx hb d_PM_variable_42 rfl (lv_at hl 0 rfl) ?_
        refine r_get C h fl_PM_17 0 rfl rfl d_PM_variable_43 ?_
        refine lv_aload_n hx hb d_PM_variable_46 rfl (lv_at hl 0 rfl) ?_
        refine r_get C h fl_PM_44 0 rfl rfl d_PM_variable_47 ?_
        refine lv_iload_n hx hb d_PM_variable_50 rfl (lv_at hl 3 rfl) ?_
        refine r_zast C h 3 rfl (mN M) (hlt) (rfl) (by decide) (g := fun j => bI (va_up (mG M) (mN M) b2 j)) (upd_bI _ _ _) (ws' := wPM cA bd (mN M, va_up (mP M) (mN M) k, va_up (mO M) (mN M) b1, va_up (mG M) (mN M) b2, mK M, mD M, mF M, mR M, mM M, mX M, mY M) T) (rfl) d_PM_variable_51 (fun H locs h => ?_)
        refine lv_aload_n hx hb d_PM_variable_52 rfl (lv_at hl 0 rfl) ?_
        refine lv_dup hx hb d_PM_variable_53 rfl ?_
        refine r_get C h fl_PM_44 0 rfl rfl d_PM_variable_54 ?_
        refine lv_iconst (v := 1) hx hb d_PM_variable_57 (by decide) ?_
        refine lv_iadd hx hb d_PM_variable_58 ?_
        refine w_i (nI (mN M + 1)) (nI_1 _) ?_
        refine r_put C h fl_PM_44 0 rfl rfl (rfl) (rfl) (Nat.le_of_ble_eq_true rfl) (ws' := wPM cA bd (mN M + 1, va_up (mP M) (mN M) k, va_up (mO M) (mN M) b1, va_up (mG M) (mN M) b2, mK M, mD M, mF M, mR M, mM M, mX M, mY M) T) (rfl) d_PM_variable_59 (fun H locs h => ?_)
        refine lv_aload_n hx hb d_PM_variable_62 rfl (lv_at hl 0 rfl) ?_
        refine r_get C h fl_PM_44 0 rfl rfl d_PM_variable_63 ?_
        refine lv_iconst (v := 1) hx hb d_PM_variable_66 (by decide) ?_
        refine lv_isub hx hb d_PM_variable_67 ?_
        refine w_i (nI (mN M)) (nI_pred _) ?_
        exact r_iret C h hr (Or.inr ⟨k, ⟨rfl, k1, k8, hlt⟩, rfl, rfl⟩) d_PM_variable_68
      · refine lv_iconst (v := (-1)) hx hb d_PM_variable_20 (by decide) ?_
        exact r_iret C h hr (Or.inl ⟨Or.inr (Or.inr ((nI_eq (by omega) (by decide)).mp c3)), rfl, rfl⟩) d_PM_variable_21
set_option maxHeartbeats 4000000 in
set_option maxRecDepth 100000 in
theorem c_PM_clear (l : Launch) (D : va_G) (cA : Nat → ClassId) (bd : Nat → Nat) (M : MS) (T : TS)  : CtI l y_PM_clear b_PM_clear 2 (some .int) (rmZ) D cA [.ref (bd 0)] (wPM cA bd M T) (fun r u => r = nI (mK M) ∧ u = wPM cA bd (mN M, mP M, mO M, mG M, 0, mD M, mF M, mR M, mM M, mX M, mY M) T) := by
  refine CtI.of (by decide) (Nat.le_of_ble_eq_true rfl) ?_
  intro p e s m below meth c ls C hin hr h hl
  obtain ⟨hx, hb, hml, hown, hts, hK, hlk⟩ := id C
  have hNW := hK.2
  have hl : lv_has ls 2 [(0, .ref (bd 0))] := hl
  refine lv_aload_n hx hb d_PM_clear_0 rfl (lv_at hl 0 rfl) ?_
  refine r_get C h fl_PM_48 0 rfl rfl d_PM_clear_1 ?_
  refine lv_istore_n (lv' := [(1, .int (nI (mK M))), (0, .ref (bd 0))]) hx hb d_PM_clear_4 rfl hl (by decide) rfl (fun ls hl => ?_)
  refine lv_aload_n hx hb d_PM_clear_5 rfl (lv_at hl 1 rfl) ?_
  refine lv_iconst (v := nI 0) hx hb d_PM_clear_6 (by decide) ?_
  refine r_put C h fl_PM_48 0 rfl rfl (rfl) (rfl) (Nat.le_of_ble_eq_true rfl) (ws' := wPM cA bd (mN M, mP M, mO M, mG M, 0, mD M, mF M, mR M, mM M, mX M, mY M) T) (rfl) d_PM_clear_7 (fun H locs h => ?_)
  refine lv_iload_n hx hb d_PM_clear_10 rfl (lv_at hl 0 rfl) ?_
  exact r_iret C h hr ⟨rfl, rfl⟩ d_PM_clear_11
set_option maxHeartbeats 4000000 in
set_option maxRecDepth 100000 in
theorem c_PM_next (l : Launch) (D : va_G) (cA : Nat → ClassId) (bd : Nat → Nat) (M : MS) (T : TS) (q x y : Int32) (hn : mK M ≤ 120) : CtI l y_PM_next b_PM_next 4 (some .boolean) ({ frames := 1, cells := 0, slots := 0, locals := 21 }) D cA [.ref (bd 0), .int q, .int x, .int y] (wPM cA bd M T) (fun r u => (¬ (isN (mK M) q = true ∧ okX x ∧ okX y) ∧ r = bI false ∧ u = wPM cA bd M T) ∨ (∃ j, j < mK M ∧ q = nI j ∧ okX x ∧ okX y ∧ r = bI true ∧ u = wPM cA bd (mN M, mP M, mO M, mG M, mK M, mD M, mF M, mR M, mM M, va_up (mX M) j x, va_up (mY M) j y) T)) := by
  refine CtI.of (by decide) (Nat.le_of_ble_eq_true rfl) ?_
  intro p e s m below meth c ls C hin hr h hl
  obtain ⟨hx, hb, hml, hown, hts, hK, hlk⟩ := id C
  have hNW := hK.2
  have hl : lv_has ls 4 [(0, .ref (bd 0)), (1, .int q), (2, .int x), (3, .int y)] := hl
  refine lv_aload_n hx hb d_PM_next_0 rfl (lv_at hl 0 rfl) ?_
  refine lv_iload_n hx hb d_PM_next_1 rfl (lv_at hl 1 rfl) ?_
  refine r_calli (As := [.int q]) (rest := []) C h cv_PM_55 (c_PM_isPoint l D cA bd M T q) 0 rfl rfl rfl rfl hl.1 rfl (Nat.le_of_ble_eq_true rfl) rfl rfl ⟨Nat.le_of_ble_eq_true rfl, Nat.le_of_ble_eq_true rfl⟩ ⟨Nat.le_of_ble_eq_true rfl, Nat.le_of_ble_eq_true rfl⟩ d_PM_next_2 (fun r u H locs hq h => ?_)
  obtain ⟨rfl, rfl⟩ := hq
  refine lv_if_eq (tgt := 30) hx hb d_PM_next_5 (by decide) (fun c1 => ?_) (fun c1 => ?_)
  · refine lv_iconst (v := 0) hx hb d_PM_next_30 (by decide) ?_
    exact r_zret false C h hr rfl (Or.inl ⟨fun z => absurd z.1 (by rw [bI_0.mp c1]; decide), rfl, rfl⟩) d_PM_next_31
  · refine lv_iload_n hx hb d_PM_next_8 rfl (lv_at hl 2 rfl) ?_
    refine lv_iconst (v := (-1)) hx hb d_PM_next_9 (by decide) ?_
    refine lv_icmp_lt (tgt := 30) hx hb d_PM_next_10 (by decide) (fun c2 => ?_) (fun c2 => ?_)
    · refine lv_iconst (v := 0) hx hb d_PM_next_30 (by decide) ?_
      exact r_zret false C h hr rfl (Or.inl ⟨fun z => absurd c2 z.2.1.1, rfl, rfl⟩) d_PM_next_31
    · refine lv_iload_n hx hb d_PM_next_13 rfl (lv_at hl 2 rfl) ?_
      refine lv_bipush (v := nI 120) hx hb d_PM_next_14 (by decide) ?_
      refine lv_icmp_ge (tgt := 30) hx hb d_PM_next_16 (by decide) (fun c3 => ?_) (fun c3 => ?_)
      · refine lv_iconst (v := 0) hx hb d_PM_next_30 (by decide) ?_
        exact r_zret false C h hr rfl (Or.inl ⟨fun z => absurd c3 z.2.1.2, rfl, rfl⟩) d_PM_next_31
      · refine lv_iload_n hx hb d_PM_next_19 rfl (lv_at hl 3 rfl) ?_
        refine lv_iconst (v := (-1)) hx hb d_PM_next_20 (by decide) ?_
        refine lv_icmp_lt (tgt := 30) hx hb d_PM_next_21 (by decide) (fun c4 => ?_) (fun c4 => ?_)
        · refine lv_iconst (v := 0) hx hb d_PM_next_30 (by decide) ?_
          exact r_zret false C h hr rfl (Or.inl ⟨fun z => absurd c4 z.2.2.1, rfl, rfl⟩) d_PM_next_31
        · refine lv_iload_n hx hb d_PM_next_24 rfl (lv_at hl 3 rfl) ?_
          refine lv_bipush (v := nI 120) hx hb d_PM_next_25 (by decide) ?_
          refine lv_icmp_lt (tgt := 32) hx hb d_PM_next_27 (by decide) (fun c5 => ?_) (fun c5 => ?_)
          · obtain ⟨j, hj, rfl⟩ := (isN_t (by omega)).mp (bI_n0.mp c1)
            refine lv_aload_n hx hb d_PM_next_32 rfl (lv_at hl 0 rfl) ?_
            refine r_get C h fl_PM_32 0 rfl rfl d_PM_next_33 ?_
            refine lv_iload_n hx hb d_PM_next_36 rfl (lv_at hl 1 rfl) ?_
            refine lv_iload_n hx hb d_PM_next_37 rfl (lv_at hl 2 rfl) ?_
            refine r_iast C h 8 rfl (j) (by omega) (rfl) (by decide) (g := va_up (mX M) j x) (upd_i _ _ _) (ws' := wPM cA bd (mN M, mP M, mO M, mG M, mK M, mD M, mF M, mR M, mM M, va_up (mX M) j x, mY M) T) (rfl) d_PM_next_38 (fun H locs h => ?_)
            refine lv_aload_n hx hb d_PM_next_39 rfl (lv_at hl 0 rfl) ?_
            refine r_get C h fl_PM_35 0 rfl rfl d_PM_next_40 ?_
            refine lv_iload_n hx hb d_PM_next_43 rfl (lv_at hl 1 rfl) ?_
            refine lv_iload_n hx hb d_PM_next_44 rfl (lv_at hl 3 rfl) ?_
            refine r_iast C h 9 rfl (j) (by omega) (rfl) (by decide) (g := va_up (mY M) j y) (upd_i _ _ _) (ws' := wPM cA bd (mN M, mP M, mO M, mG M, mK M, mD M, mF M, mR M, mM M, va_up (mX M) j x, va_up (mY M) j y) T) (rfl) d_PM_next_45 (fun H locs h => ?_)
            refine lv_iconst (v := 1) hx hb d_PM_next_46 (by decide) ?_
            exact r_zret true C h hr rfl (Or.inr ⟨j, hj, rfl, ⟨c2, c3⟩, ⟨c4, fun z => Int32.not_lt.mpr z c5⟩, rfl, rfl⟩) d_PM_next_47
          · refine lv_iconst (v := 0) hx hb d_PM_next_30 (by decide) ?_
            exact r_zret false C h hr rfl (Or.inl ⟨fun z => absurd (Int32.not_lt.mp c5) z.2.2.2, rfl, rfl⟩) d_PM_next_31
def nd (j : Nat) (w : Bool) : Nat := 2 * j + w.toNat
theorem nd_eq (j : Nat) (w : Bool) : nI 2 * nI j + bI w = nI (nd j w) := by
  rw [pk_mul]; unfold nd; cases w
  · exact nI_add _ 0
  · exact nI_add _ 1
theorem nd_lt {j n : Nat} (w : Bool) (h : j < n) : nd j w < 2 * n := by unfold nd; have := Bool.toNat_le w; omega
theorem nd_inj {j j' : Nat} {w w' : Bool} (h : nd j w = nd j' w') : j = j' ∧ w = w' := by
  unfold nd at h
  have h1 := Bool.toNat_le w
  have h2 := Bool.toNat_le w'
  refine ⟨by omega, ?_⟩
  cases w <;> cases w' <;> simp at h ⊢ <;> omega
/-- what PartsFlowModel.come does to what was seen, and to the pile -/
def CoP (n : Nat) (T : TS) (x : Int32) (w : Bool) (T' : TS) : Prop :=
  ((isN n x = false ∨ ∃ j, j < n ∧ x = nI j ∧ tS T (nd j w) = true) ∧ T' = T) ∨ (∃ j, j < n ∧ x = nI j ∧ tS T (nd j w) = false ∧ T' = (va_up (tS T) (nd j w) true, va_up (tL T) (tH T) (nd j w), tH T + 1))
set_option maxHeartbeats 4000000 in
set_option maxRecDepth 100000 in
theorem c_PM_come (l : Launch) (D : va_G) (cA : Nat → ClassId) (bd : Nat → Nat) (M : MS) (T : TS) (x : Int32) (wv : Bool) (hn : mK M ≤ 120) (hh : ∀ j, j < mK M → x = nI j → tS T (nd j wv) = false → tH T < 240) : CtV l y_PM_come b_PM_come 3 none ({ frames := 1, cells := 0, slots := 0, locals := 21 }) D cA [.ref (bd 0), .int x, .int (bI wv)] (wPM cA bd M T) (fun u => ∃ T', CoP (mK M) T x wv T' ∧ u = wPM cA bd M T') := by
  refine CtV.of (by decide) (Nat.le_of_ble_eq_true rfl) ?_
  intro p e s m below meth c ls C hin hr h hl
  obtain ⟨hx, hb, hml, hown, hts, hK, hlk⟩ := id C
  have hNW := hK.2
  have hl : lv_has ls 3 [(0, .ref (bd 0)), (1, .int x), (2, .int (bI wv))] := hl
  refine lv_aload_n hx hb d_PM_come_0 rfl (lv_at hl 0 rfl) ?_
  refine lv_iload_n hx hb d_PM_come_1 rfl (lv_at hl 1 rfl) ?_
  refine r_calli (As := [.int x]) (rest := []) C h cv_PM_55 (c_PM_isPoint l D cA bd M T x) 0 rfl rfl rfl rfl hl.1 rfl (Nat.le_of_ble_eq_true rfl) rfl rfl ⟨Nat.le_of_ble_eq_true rfl, Nat.le_of_ble_eq_true rfl⟩ ⟨Nat.le_of_ble_eq_true rfl, Nat.le_of_ble_eq_true rfl⟩ d_PM_come_2 (fun r u H locs hq h => ?_)
  obtain ⟨rfl, rfl⟩ := hq
  refine lv_if_eq (tgt := 21) hx hb d_PM_come_5 (by decide) (fun c1 => ?_) (fun c1 => ?_)
  · exact r_vret C h hr ⟨T, Or.inl ⟨Or.inl (bI_0.mp c1), rfl⟩, rfl⟩ d_PM_come_21
  · obtain ⟨j, hj, rfl⟩ := (isN_t (by omega)).mp (bI_n0.mp c1)
    have hnd := nd_lt wv hj
    refine lv_aload_n hx hb d_PM_come_8 rfl (lv_at hl 0 rfl) ?_
    refine r_get C h fl_PM_38 0 rfl rfl d_PM_come_9 ?_
    refine lv_iconst (v := nI 2) hx hb d_PM_come_12 (by decide) ?_
    refine lv_iload_n hx hb d_PM_come_13 rfl (lv_at hl 1 rfl) ?_
    refine lv_imul hx hb d_PM_come_14 ?_
    refine lv_iload_n hx hb d_PM_come_15 rfl (lv_at hl 2 rfl) ?_
    refine lv_iadd hx hb d_PM_come_16 ?_
    refine w_i (nI (nd j wv)) (nd_eq j wv) ?_
    refine r_zald C h 10 rfl (nd j wv) (by omega) (rfl) (by decide) (v := bI (tS T (nd j wv))) (rfl) d_PM_come_17 ?_
    refine lv_if_eq (tgt := 22) hx hb d_PM_come_18 (by decide) (fun c2 => ?_) (fun c2 => ?_)
    · have hs : tS T (nd j wv) = false := bI_0.mp c2
      have hhi := hh j hj rfl hs
      refine lv_aload_n hx hb d_PM_come_22 rfl (lv_at hl 0 rfl) ?_
      refine r_get C h fl_PM_38 0 rfl rfl d_PM_come_23 ?_
      refine lv_iconst (v := nI 2) hx hb d_PM_come_26 (by decide) ?_
      refine lv_iload_n hx hb d_PM_come_27 rfl (lv_at hl 1 rfl) ?_
      refine lv_imul hx hb d_PM_come_28 ?_
      refine lv_iload_n hx hb d_PM_come_29 rfl (lv_at hl 2 rfl) ?_
      refine lv_iadd hx hb d_PM_come_30 ?_
      refine w_i (nI (nd j wv)) (nd_eq j wv) ?_
      refine lv_iconst (v := bI true) hx hb d_PM_come_31 (by decide) ?_
      refine r_zast C h 10 rfl (nd j wv) (by omega) (rfl) (by decide) (g := fun i => bI (va_up (tS T) (nd j wv) true i)) (upd_bI _ _ _) (ws' := wPM cA bd M (va_up (tS T) (nd j wv) true, tL T, tH T)) (rfl) d_PM_come_32 (fun H locs h => ?_)
      refine lv_aload_n hx hb d_PM_come_33 rfl (lv_at hl 0 rfl) ?_
      refine r_get C h fl_PM_41 0 rfl rfl d_PM_come_34 ?_
      refine lv_aload_n hx hb d_PM_come_37 rfl (lv_at hl 0 rfl) ?_
      refine r_get C h fl_PM_58 0 rfl rfl d_PM_come_38 ?_
      refine lv_iconst (v := nI 2) hx hb d_PM_come_41 (by decide) ?_
      refine lv_iload_n hx hb d_PM_come_42 rfl (lv_at hl 1 rfl) ?_
      refine lv_imul hx hb d_PM_come_43 ?_
      refine lv_iload_n hx hb d_PM_come_44 rfl (lv_at hl 2 rfl) ?_
      refine lv_iadd hx hb d_PM_come_45 ?_
      refine w_i (nI (nd j wv)) (nd_eq j wv) ?_
      refine r_iast C h 11 rfl (tH T) (hhi) (rfl) (by decide) (g := fun i => nI (va_up (tL T) (tH T) (nd j wv) i)) (upd_nI _ _ _) (ws' := wPM cA bd M (va_up (tS T) (nd j wv) true, va_up (tL T) (tH T) (nd j wv), tH T)) (rfl) d_PM_come_46 (fun H locs h => ?_)
      refine lv_aload_n hx hb d_PM_come_47 rfl (lv_at hl 0 rfl) ?_
      refine lv_dup hx hb d_PM_come_48 rfl ?_
      refine r_get C h fl_PM_58 0 rfl rfl d_PM_come_49 ?_
      refine lv_iconst (v := 1) hx hb d_PM_come_52 (by decide) ?_
      refine lv_iadd hx hb d_PM_come_53 ?_
      refine w_i (nI (tH T + 1)) (nI_1 _) ?_
      refine r_put C h fl_PM_58 0 rfl rfl (rfl) (rfl) (Nat.le_of_ble_eq_true rfl) (ws' := wPM cA bd M (va_up (tS T) (nd j wv) true, va_up (tL T) (tH T) (nd j wv), tH T + 1)) (rfl) d_PM_come_54 (fun H locs h => ?_)
      exact r_vret C h hr ⟨_, Or.inr ⟨j, hj, rfl, hs, rfl⟩, rfl⟩ d_PM_come_57
    · exact r_vret C h hr ⟨T, Or.inl ⟨Or.inr ⟨j, hj, rfl, bI_n0.mp c2⟩, rfl⟩, rfl⟩ d_PM_come_21
theorem okP_pre {nv : Nat} {pt : Nat → Nat} {d v pa mn : Int32} (hn : nv < 2 ^ 31) (h : okP nv pt d v pa mn) : ¬ d < 0 ∧ ¬ nI 5 < d ∧ (d = 0 ∨ isN nv v = true) := by
  refine ⟨fun q => okP_neg q h, fun q => okP_big q h, ?_⟩
  by_cases h0 : d = 0
  · exact Or.inl h0
  · refine Or.inr ?_
    cases e : isN nv v
    · exact absurd h (okP_v hn h0 e)
    · rfl
theorem lt1_0 {d : Int32} (h0 : ¬ d < 0) (h1 : d < 1) : d = 0 := by
  obtain ⟨j, hj, rfl⟩ := nI_of h0
  have : j < 1 := (nI_ltI hj (by decide)).mp (h1 : nI j < nI 1)
  rw [show j = 0 by omega]; exact nI_0
theorem d_of1 {d : Int32} (h1 : ¬ d < 1) (h2 : ¬ nI 5 < d) (h0 : ¬ d < 0) : ∃ dn, d = nI dn ∧ 1 ≤ dn ∧ dn ≤ 5 := d_of (fun q => h1 (by rw [q]; decide)) h0 h2
def MIn (M : MS) : Prop := mN M ≤ 20 ∧ mK M ≤ 120 ∧ (∀ j, j < mN M → 1 ≤ mP M j ∧ mP M j ≤ 8) ∧ ∀ p, p < mK M → mD M p ≤ 5 ∧ ((mD M p = 0 ∧ mF M p = -1) ∨ (1 ≤ mD M p ∧ ∃ v a, v < mN M ∧ mF M p = nI v ∧ mR M p = nI a ∧ 1 ≤ mM M p ∧ a + mM M p ≤ mP M v))
section RW2
variable {p : Program} {l : Launch} {e : Env} {R : Room} {s : State} {m : MethodId} {args : Array Value} {below : List Frame} {meth : Method} {c : Code} {H : Heap} {locs : List Loc} {cells slots : Nat} {Q : State → Prop} {pc : Nat} {ls : Array Slot}
theorem w_joinHV (pc2 : Nat) (rest2 : List Value) (Ph : Int32 → Heap → List Loc → Prop) {st : List Value} (hb : (∀ v H2 locs2, Ph v H2 locs2 → W p l e R s m args below meth c H2 locs2 cells slots Q (F0 m pc2 ls (.int v :: rest2))) → W p l e R s m args below meth c H locs cells slots Q (F0 m pc ls st))
    (hk : ∀ v H2 locs2, Ph v H2 locs2 → W p l e R s m args below meth c H2 locs2 cells slots Q (F0 m pc2 ls (.int v :: rest2))) : W p l e R s m args below meth c H locs cells slots Q (F0 m pc ls st) := hb hk
end RW2
set_option maxHeartbeats 4000000 in
set_option maxRecDepth 100000 in
theorem c_PM_point (l : Launch) (D : va_G) (cA : Nat → ClassId) (bd : Nat → Nat) (M : MS) (T : TS) (d v pa mn : Int32) (hM : MIn M) : CtI l y_PM_point b_PM_point 6 (some .int) ({ frames := 1, cells := 0, slots := 0, locals := 21 }) D cA [.ref (bd 0), .int d, .int v, .int pa, .int mn] (wPM cA bd M T) (fun r u => (¬ (okP (mN M) (mP M) d v pa mn ∧ mK M < 120) ∧ r = -1 ∧ u = wPM cA bd M T) ∨ (∃ dn vn a b, okQ (mN M) (mP M) d v pa mn dn vn a b ∧ mK M < 120 ∧ r = nI (mK M) ∧ u = wPM cA bd (mN M, mP M, mO M, mG M, mK M + 1, va_up (mD M) (mK M) dn, va_up (mF M) (mK M) (if dn = 0 then -1 else nI vn), va_up (mR M) (mK M) (if dn = 0 then pa else nI a), va_up (mM M) (mK M) b, va_up (mX M) (mK M) (nI (mK M + 1)), va_up (mY M) (mK M) (-1)) T)) := by
  refine CtI.of (by decide) (Nat.le_of_ble_eq_true rfl) ?_
  intro p e s m below meth c ls C hin hr h hl
  obtain ⟨hx, hb, hml, hown, hts, hK, hlk⟩ := id C
  have hNW := hK.2
  have hl : lv_has ls 6 [(0, .ref (bd 0)), (1, .int d), (2, .int v), (3, .int pa), (4, .int mn)] := hl
  have hN := hM.1
  have hK9 := hM.2.1
  refine w_joinHV 35 [] (fun v9 H locs => (∃ g : Bool, v9 = bI g ∧ (g = true ↔ ¬ d < 0 ∧ ¬ nI 5 < d ∧ mK M < 120 ∧ (d = 0 ∨ isN (mN M) v = true))) ∧ Hp (va_A (wPM cA bd M T) s.heap.size) s D (wPM cA bd M T) H locs) (fun hj => ?_) (fun v9 H locs hvh => ?_)
  · refine lv_iload_n hx hb d_PM_point_0 rfl (lv_at hl 1 rfl) ?_
    refine lv_if_lt (tgt := 34) hx hb d_PM_point_1 (by decide) (fun c1 => ?_) (fun c1 => ?_)
    · refine lv_iconst (v := 0) hx hb d_PM_point_34 (by decide) ?_
      exact hj 0 _ _ ⟨⟨false, rfl, ⟨fun q => (by cases q), fun q => absurd c1 q.1⟩⟩, h⟩
    · refine lv_iload_n hx hb d_PM_point_4 rfl (lv_at hl 1 rfl) ?_
      refine lv_iconst (v := nI 5) hx hb d_PM_point_5 (by decide) ?_
      refine lv_icmp_gt (tgt := 34) hx hb d_PM_point_6 (by decide) (fun c2 => ?_) (fun c2 => ?_)
      · refine lv_iconst (v := 0) hx hb d_PM_point_34 (by decide) ?_
        exact hj 0 _ _ ⟨⟨false, rfl, ⟨fun q => (by cases q), fun q => absurd c2 q.2.1⟩⟩, h⟩
      · refine lv_aload_n hx hb d_PM_point_9 rfl (lv_at hl 0 rfl) ?_
        refine r_get C h fl_PM_48 0 rfl rfl d_PM_point_10 ?_
        refine lv_bipush (v := nI 120) hx hb d_PM_point_13 (by decide) ?_
        refine lv_icmp_ge (tgt := 34) hx hb d_PM_point_15 (by decide) (fun c3 => ?_) (fun c3 => ?_)
        · refine lv_iconst (v := 0) hx hb d_PM_point_34 (by decide) ?_
          exact hj 0 _ _ ⟨⟨false, rfl, ⟨fun q => (by cases q), fun q => absurd q.2.2.1 (by rcases Nat.lt_or_ge (mK M) 120 with z | z; exact absurd c3 (nI_ge z (by decide)); omega)⟩⟩, h⟩
        · have hlt : mK M < 120 := by rcases Nat.lt_or_ge (mK M) 120 with q | q; exact q; exact absurd (nI_le q (by omega)) c3
          refine lv_iload_n hx hb d_PM_point_18 rfl (lv_at hl 1 rfl) ?_
          refine lv_if_eq (tgt := 30) hx hb d_PM_point_19 (by decide) (fun c4 => ?_) (fun c4 => ?_)
          · refine lv_iconst (v := 1) hx hb d_PM_point_30 (by decide) ?_
            refine lv_goto (tgt := 35) hx hb d_PM_point_31 (by decide) ?_
            exact hj 1 _ _ ⟨⟨true, rfl, ⟨fun _ => ⟨c1, c2, hlt, Or.inl c4⟩, fun _ => rfl⟩⟩, h⟩
          · refine lv_aload_n hx hb d_PM_point_22 rfl (lv_at hl 0 rfl) ?_
            refine lv_iload_n hx hb d_PM_point_23 rfl (lv_at hl 2 rfl) ?_
            refine r_calli (As := [.int v]) (rest := []) C h cv_PM_51 (c_PM_isVariable l D cA bd M T v) 0 rfl rfl rfl rfl hl.1 rfl (Nat.le_of_ble_eq_true rfl) rfl rfl ⟨Nat.le_of_ble_eq_true rfl, Nat.le_of_ble_eq_true rfl⟩ ⟨Nat.le_of_ble_eq_true rfl, Nat.le_of_ble_eq_true rfl⟩ d_PM_point_24 (fun r u H locs hq h => ?_)
            obtain ⟨rfl, rfl⟩ := hq
            refine lv_if_eq (tgt := 34) hx hb d_PM_point_27 (by decide) (fun c5 => ?_) (fun c5 => ?_)
            · refine lv_iconst (v := 0) hx hb d_PM_point_34 (by decide) ?_
              exact hj 0 _ _ ⟨⟨false, rfl, ⟨fun q => (by cases q), fun q => absurd (q.2.2.2.resolve_left c4) (by rw [bI_0.mp c5]; decide)⟩⟩, h⟩
            · refine lv_iconst (v := 1) hx hb d_PM_point_30 (by decide) ?_
              refine lv_goto (tgt := 35) hx hb d_PM_point_31 (by decide) ?_
              exact hj 1 _ _ ⟨⟨true, rfl, ⟨fun _ => ⟨c1, c2, hlt, Or.inr (bI_n0.mp c5)⟩, fun _ => rfl⟩⟩, h⟩
  · obtain ⟨hv9, h⟩ := hvh
    obtain ⟨g1, rfl, hg1⟩ := hv9
    refine lv_istore (lv' := [(5, .int (bI g1)), (0, .ref (bd 0)), (1, .int d), (2, .int v), (3, .int pa), (4, .int mn)]) hx hb d_PM_point_35 hl (by decide) rfl (fun ls hl => ?_)
    refine lv_iload hx hb d_PM_point_37 (lv_at hl 0 rfl) ?_
    refine w_join 93 [] (fun v9 => ∃ g : Bool, v9 = bI g ∧ (g = true ↔ okP (mN M) (mP M) d v pa mn ∧ mK M < 120)) (fun hj => ?_) (fun v9 hv9 => ?_)
    · refine lv_if_eq (tgt := 92) hx hb d_PM_point_39 (by decide) (fun c6 => ?_) (fun c6 => ?_)
      · have hg0 : g1 = false := bI_0.mp c6
        refine lv_iconst (v := 0) hx hb d_PM_point_92 (by decide) ?_
        exact hj 0 ⟨false, rfl, ⟨fun q => (by cases q), fun q => absurd (hg1.mpr (by have z := okP_pre (by omega) q.1; exact ⟨z.1, z.2.1, q.2, z.2.2⟩)) (by rw [hg0]; decide)⟩⟩
      · obtain ⟨n1, n2, hlt, n4⟩ := hg1.mp (bI_n0.mp c6)
        refine lv_iload_n hx hb d_PM_point_42 rfl (lv_at hl 2 rfl) ?_
        refine lv_iconst (v := 1) hx hb d_PM_point_43 (by decide) ?_
        refine lv_icmp_lt (tgt := 88) hx hb d_PM_point_44 (by decide) (fun c7 => ?_) (fun c7 => ?_)
        · have hd0 := lt1_0 n1 c7
          refine lv_iconst (v := 1) hx hb d_PM_point_88 (by decide) ?_
          refine lv_goto (tgt := 93) hx hb d_PM_point_89 (by decide) ?_
          exact hj 1 ⟨true, rfl, ⟨fun _ => ⟨by rw [hd0]; exact okP_0, hlt⟩, fun _ => rfl⟩⟩
        · obtain ⟨dn, rfl, hd1, hd5⟩ := d_of1 c7 n2 n1
          obtain ⟨vn, hvn, rfl⟩ := (isN_t (by omega)).mp (n4.resolve_left (nI_ne0 (by omega) (by omega)))
          have hok := okP_in (pt := mP M) (pa := pa) (mn := mn) (show mN M < 2 ^ 31 by omega) hd1 hd5 hvn
          have hp8 := (hM.2.2.1 vn hvn).2
          refine lv_iload_n hx hb d_PM_point_47 rfl (lv_at hl 2 rfl) ?_
          refine lv_iconst (v := nI 3) hx hb d_PM_point_48 (by decide) ?_
          refine lv_icmp_gt (tgt := 88) hx hb d_PM_point_49 (by decide) (fun c8 => ?_) (fun c8 => ?_)
          · refine lv_iconst (v := 1) hx hb d_PM_point_88 (by decide) ?_
            refine lv_goto (tgt := 93) hx hb d_PM_point_89 (by decide) ?_
            exact hj 1 ⟨true, rfl, ⟨fun _ => ⟨hok.mpr (Or.inl ((nI_ltI (by omega) (by omega)).mp c8)), hlt⟩, fun _ => rfl⟩⟩
          · have hd3 : ¬ 3 < dn := fun q => c8 (nI_lt q (by omega))
            refine lv_iload_n hx hb d_PM_point_52 rfl (lv_at hl 4 rfl) ?_
            refine lv_if_lt (tgt := 92) hx hb d_PM_point_53 (by decide) (fun c9 => ?_) (fun c9 => ?_)
            · refine lv_iconst (v := 0) hx hb d_PM_point_92 (by decide) ?_
              refine hj 0 ⟨false, rfl, ⟨fun q => (by cases q), fun q => ?_⟩⟩
              rcases hok.mp q.1 with q | ⟨a, b, qa, qb, q1, q2⟩
              · exact absurd q hd3
              · exact absurd (qa ▸ c9) (nI_pos (show a < 2 ^ 31 by clear q; omega))
            · refine lv_iload hx hb d_PM_point_56 (lv_at hl 5 rfl) ?_
              refine lv_iconst (v := 1) hx hb d_PM_point_58 (by decide) ?_
              refine lv_icmp_lt (tgt := 92) hx hb d_PM_point_59 (by decide) (fun c10 => ?_) (fun c10 => ?_)
              · refine lv_iconst (v := 0) hx hb d_PM_point_92 (by decide) ?_
                refine hj 0 ⟨false, rfl, ⟨fun q => (by cases q), fun q => ?_⟩⟩
                rcases hok.mp q.1 with q | ⟨a, b, qa, qb, q1, q2⟩
                · exact absurd q hd3
                · exact absurd (qb ▸ c10 : nI b < nI 1) (nI_nlt q1 (show b < 2 ^ 31 by clear q; omega))
              · refine lv_iload_n hx hb d_PM_point_62 rfl (lv_at hl 4 rfl) ?_
                refine lv_bipush (v := nI 8) hx hb d_PM_point_63 (by decide) ?_
                refine lv_icmp_ge (tgt := 92) hx hb d_PM_point_65 (by decide) (fun c11 => ?_) (fun c11 => ?_)
                · refine lv_iconst (v := 0) hx hb d_PM_point_92 (by decide) ?_
                  refine hj 0 ⟨false, rfl, ⟨fun q => (by cases q), fun q => ?_⟩⟩
                  rcases hok.mp q.1 with q | ⟨a, b, qa, qb, q1, q2⟩
                  · exact absurd q hd3
                  · exact absurd (qa ▸ c11) (nI_ge (show a < 8 by clear q; omega) (by decide))
                · refine lv_iload hx hb d_PM_point_68 (lv_at hl 5 rfl) ?_
                  refine lv_bipush (v := nI 8) hx hb d_PM_point_70 (by decide) ?_
                  refine lv_icmp_gt (tgt := 92) hx hb d_PM_point_72 (by decide) (fun c12 => ?_) (fun c12 => ?_)
                  · refine lv_iconst (v := 0) hx hb d_PM_point_92 (by decide) ?_
                    refine hj 0 ⟨false, rfl, ⟨fun q => (by cases q), fun q => ?_⟩⟩
                    rcases hok.mp q.1 with q | ⟨a, b, qa, qb, q1, q2⟩
                    · exact absurd q hd3
                    · exact absurd (qb ▸ c12) (nI_nlt (show b ≤ 8 by clear q; omega) (by decide))
                  · obtain ⟨a, ha, rfl⟩ := nI_of c9
                    obtain ⟨b, hb2, rfl⟩ : ∃ b : Nat, b < 2 ^ 31 ∧ mn = nI b := nI_of (fun q => c10 (Int32.lt_trans q (by decide)))
                    have hb1 : 1 ≤ b := by rcases Nat.eq_zero_or_pos b with q | q; (subst q; exact absurd (by decide) c10); exact q
                    have ha8 : a < 8 := by rcases Nat.lt_or_ge a 8 with q | q; exact q; exact absurd (nI_le q ha) c11
                    have hb8 : b ≤ 8 := by rcases Nat.lt_or_ge 8 b with q | q; exact absurd (nI_lt q hb2) c12; exact q
                    refine lv_iload_n hx hb d_PM_point_75 rfl (lv_at hl 4 rfl) ?_
                    refine lv_iload hx hb d_PM_point_76 (lv_at hl 5 rfl) ?_
                    refine lv_iadd hx hb d_PM_point_78 ?_
                    refine w_i (nI (a + b)) (nI_add _ _) ?_
                    refine lv_aload_n hx hb d_PM_point_79 rfl (lv_at hl 1 rfl) ?_
                    refine r_get C h fl_PM_7 0 rfl rfl d_PM_point_80 ?_
                    refine lv_iload_n hx hb d_PM_point_83 rfl (lv_at hl 3 rfl) ?_
                    refine r_iald C h 1 rfl (vn) (by omega) (rfl) (by decide) (v := nI (mP M vn)) (rfl) d_PM_point_84 ?_
                    refine lv_icmp_gt (tgt := 92) hx hb d_PM_point_85 (by decide) (fun c13 => ?_) (fun c13 => ?_)
                    · refine lv_iconst (v := 0) hx hb d_PM_point_92 (by decide) ?_
                      refine hj 0 ⟨false, rfl, ⟨fun q => (by cases q), fun q => ?_⟩⟩
                      rcases hok.mp q.1 with q | ⟨a2, b2, qa, qb, q1, q2⟩
                      · exact absurd q hd3
                      · have e1 := (nI_eq ha (by omega)).mp qa
                        have e2 := (nI_eq hb2 (by omega)).mp qb
                        clear q; subst e1; subst e2
                        exact absurd c13 (nI_nlt q2 (by omega))
                    · have hab : a + b ≤ mP M vn := by rcases Nat.lt_or_ge (mP M vn) (a + b) with q | q; exact absurd (nI_lt q (by omega)) c13; exact q
                      refine lv_iconst (v := 1) hx hb d_PM_point_88 (by decide) ?_
                      refine lv_goto (tgt := 93) hx hb d_PM_point_89 (by decide) ?_
                      exact hj 1 ⟨true, rfl, ⟨fun _ => ⟨hok.mpr (Or.inr ⟨a, b, rfl, rfl, hb1, hab⟩), hlt⟩, fun _ => rfl⟩⟩
    · obtain ⟨g2, rfl, hg2⟩ := hv9
      refine lv_istore (lv' := [(5, .int (bI g2)), (0, .ref (bd 0)), (1, .int d), (2, .int v), (3, .int pa), (4, .int mn)]) hx hb d_PM_point_93 hl (by decide) rfl (fun ls hl => ?_)
      refine lv_iload hx hb d_PM_point_95 (lv_at hl 0 rfl) ?_
      refine lv_if_ne (tgt := 102) hx hb d_PM_point_97 (by decide) (fun c14 => ?_) (fun c14 => ?_)
      · obtain ⟨⟨dn, vn, a, b, hq⟩, hlt⟩ := hg2.mp (bI_n0.mp c14)
        have hq0 := hq
        clear hg1 hg2
        rcases hq with ⟨rfl, rfl, rfl, rfl, rfl⟩ | ⟨rfl, hd1, hd5, rfl, hvn, ⟨hd3, rfl, rfl⟩ | ⟨hd3, rfl, rfl, hb1, hab⟩⟩
        · refine lv_aload_n hx hb d_PM_point_102 rfl (lv_at hl 1 rfl) ?_
          refine r_get C h fl_PM_20 0 rfl rfl d_PM_point_103 ?_
          refine lv_aload_n hx hb d_PM_point_106 rfl (lv_at hl 1 rfl) ?_
          refine r_get C h fl_PM_48 0 rfl rfl d_PM_point_107 ?_
          refine lv_iload_n hx hb d_PM_point_110 rfl (lv_at hl 2 rfl) ?_
          refine r_iast C h 4 rfl (mK M) (hlt) (rfl) (by decide) (g := fun j => nI (va_up (mD M) (mK M) 0 j)) (upd_nI (mD M) (mK M) 0) (ws' := wPM cA bd (mN M, mP M, mO M, mG M, mK M, va_up (mD M) (mK M) 0, mF M, mR M, mM M, mX M, mY M) T) (rfl) d_PM_point_111 (fun H locs h => ?_)
          refine lv_aload_n hx hb d_PM_point_112 rfl (lv_at hl 1 rfl) ?_
          refine r_get C h fl_PM_23 0 rfl rfl d_PM_point_113 ?_
          refine lv_aload_n hx hb d_PM_point_116 rfl (lv_at hl 1 rfl) ?_
          refine r_get C h fl_PM_48 0 rfl rfl d_PM_point_117 ?_
          refine lv_iload_n hx hb d_PM_point_120 rfl (lv_at hl 2 rfl) ?_
          refine lv_if_ne (tgt := 128) hx hb d_PM_point_121 (by decide) (fun q => absurd (rfl) q) (fun _ => ?_)
          refine lv_iconst (v := (-1)) hx hb d_PM_point_124 (by decide) ?_
          refine lv_goto (tgt := 129) hx hb d_PM_point_125 (by decide) ?_
          refine r_iast C h 5 rfl (mK M) (hlt) (rfl) (by decide) (g := va_up (mF M) (mK M) (-1)) (upd_i _ _ _) (ws' := wPM cA bd (mN M, mP M, mO M, mG M, mK M, va_up (mD M) (mK M) 0, va_up (mF M) (mK M) (-1), mR M, mM M, mX M, mY M) T) (rfl) d_PM_point_129 (fun H locs h => ?_)
          refine lv_aload_n hx hb d_PM_point_130 rfl (lv_at hl 1 rfl) ?_
          refine r_get C h fl_PM_26 0 rfl rfl d_PM_point_131 ?_
          refine lv_aload_n hx hb d_PM_point_134 rfl (lv_at hl 1 rfl) ?_
          refine r_get C h fl_PM_48 0 rfl rfl d_PM_point_135 ?_
          refine lv_iload_n hx hb d_PM_point_138 rfl (lv_at hl 2 rfl) ?_
          refine lv_iconst (v := nI 4) hx hb d_PM_point_139 (by decide) ?_
          refine lv_icmp_ge (tgt := 147) hx hb d_PM_point_140 (by decide) (fun q => absurd q (by decide)) (fun _ => ?_)
          refine lv_iload_n hx hb d_PM_point_143 rfl (lv_at hl 4 rfl) ?_
          refine lv_goto (tgt := 148) hx hb d_PM_point_144 (by decide) ?_
          refine r_iast C h 6 rfl (mK M) (hlt) (rfl) (by decide) (g := va_up (mR M) (mK M) pa) (upd_i _ _ _) (ws' := wPM cA bd (mN M, mP M, mO M, mG M, mK M, va_up (mD M) (mK M) 0, va_up (mF M) (mK M) (-1), va_up (mR M) (mK M) pa, mM M, mX M, mY M) T) (rfl) d_PM_point_148 (fun H locs h => ?_)
          refine lv_aload_n hx hb d_PM_point_149 rfl (lv_at hl 1 rfl) ?_
          refine r_get C h fl_PM_29 0 rfl rfl d_PM_point_150 ?_
          refine lv_aload_n hx hb d_PM_point_153 rfl (lv_at hl 1 rfl) ?_
          refine r_get C h fl_PM_48 0 rfl rfl d_PM_point_154 ?_
          refine lv_iload_n hx hb d_PM_point_157 rfl (lv_at hl 2 rfl) ?_
          refine lv_if_ne (tgt := 165) hx hb d_PM_point_158 (by decide) (fun q => absurd (rfl) q) (fun _ => ?_)
          refine lv_iconst (v := nI 0) hx hb d_PM_point_161 (by decide) ?_
          refine lv_goto (tgt := 181) hx hb d_PM_point_162 (by decide) ?_
          refine r_iast C h 7 rfl (mK M) (hlt) (rfl) (by decide) (g := fun j => nI (va_up (mM M) (mK M) 0 j)) (upd_nI _ _ _) (ws' := wPM cA bd (mN M, mP M, mO M, mG M, mK M, va_up (mD M) (mK M) 0, va_up (mF M) (mK M) (-1), va_up (mR M) (mK M) pa, va_up (mM M) (mK M) 0, mX M, mY M) T) (rfl) d_PM_point_181 (fun H locs h => ?_)
          refine lv_aload_n hx hb d_PM_point_182 rfl (lv_at hl 1 rfl) ?_
          refine r_get C h fl_PM_32 0 rfl rfl d_PM_point_183 ?_
          refine lv_aload_n hx hb d_PM_point_186 rfl (lv_at hl 1 rfl) ?_
          refine r_get C h fl_PM_48 0 rfl rfl d_PM_point_187 ?_
          refine lv_aload_n hx hb d_PM_point_190 rfl (lv_at hl 1 rfl) ?_
          refine r_get C h fl_PM_48 0 rfl rfl d_PM_point_191 ?_
          refine lv_iconst (v := 1) hx hb d_PM_point_194 (by decide) ?_
          refine lv_iadd hx hb d_PM_point_195 ?_
          refine w_i (nI (mK M + 1)) (nI_1 _) ?_
          refine r_iast C h 8 rfl (mK M) (hlt) (rfl) (by decide) (g := va_up (mX M) (mK M) (nI (mK M + 1))) (upd_i _ _ _) (ws' := wPM cA bd (mN M, mP M, mO M, mG M, mK M, va_up (mD M) (mK M) 0, va_up (mF M) (mK M) (-1), va_up (mR M) (mK M) pa, va_up (mM M) (mK M) 0, va_up (mX M) (mK M) (nI (mK M + 1)), mY M) T) (rfl) d_PM_point_196 (fun H locs h => ?_)
          refine lv_aload_n hx hb d_PM_point_197 rfl (lv_at hl 1 rfl) ?_
          refine r_get C h fl_PM_35 0 rfl rfl d_PM_point_198 ?_
          refine lv_aload_n hx hb d_PM_point_201 rfl (lv_at hl 1 rfl) ?_
          refine r_get C h fl_PM_48 0 rfl rfl d_PM_point_202 ?_
          refine lv_iconst (v := (-1)) hx hb d_PM_point_205 (by decide) ?_
          refine r_iast C h 9 rfl (mK M) (hlt) (rfl) (by decide) (g := va_up (mY M) (mK M) (-1)) (upd_i _ _ _) (ws' := wPM cA bd (mN M, mP M, mO M, mG M, mK M, va_up (mD M) (mK M) 0, va_up (mF M) (mK M) (-1), va_up (mR M) (mK M) pa, va_up (mM M) (mK M) 0, va_up (mX M) (mK M) (nI (mK M + 1)), va_up (mY M) (mK M) (-1)) T) (rfl) d_PM_point_206 (fun H locs h => ?_)
          refine lv_aload_n hx hb d_PM_point_207 rfl (lv_at hl 1 rfl) ?_
          refine lv_dup hx hb d_PM_point_208 rfl ?_
          refine r_get C h fl_PM_48 0 rfl rfl d_PM_point_209 ?_
          refine lv_iconst (v := 1) hx hb d_PM_point_212 (by decide) ?_
          refine lv_iadd hx hb d_PM_point_213 ?_
          refine w_i (nI (mK M + 1)) (nI_1 _) ?_
          refine r_put C h fl_PM_48 0 rfl rfl (rfl) (rfl) (Nat.le_of_ble_eq_true rfl) (ws' := wPM cA bd (mN M, mP M, mO M, mG M, mK M + 1, va_up (mD M) (mK M) 0, va_up (mF M) (mK M) (-1), va_up (mR M) (mK M) pa, va_up (mM M) (mK M) 0, va_up (mX M) (mK M) (nI (mK M + 1)), va_up (mY M) (mK M) (-1)) T) (rfl) d_PM_point_214 (fun H locs h => ?_)
          refine lv_aload_n hx hb d_PM_point_217 rfl (lv_at hl 1 rfl) ?_
          refine r_get C h fl_PM_48 0 rfl rfl d_PM_point_218 ?_
          refine lv_iconst (v := 1) hx hb d_PM_point_221 (by decide) ?_
          refine lv_isub hx hb d_PM_point_222 ?_
          refine w_i (nI (mK M)) (nI_pred _) ?_
          exact r_iret C h hr (Or.inr ⟨0, 0, 0, 0, hq0, hlt, rfl, by rw [if_pos rfl, if_pos rfl]⟩) d_PM_point_223
        · have hne : ¬ nI dn = 0 := nI_ne0 (by omega) (by omega)
          have hn0 : ¬ dn = 0 := by omega
          have hge : nI 4 ≤ nI dn := nI_le hd3 (by omega)
          refine lv_aload_n hx hb d_PM_point_102 rfl (lv_at hl 1 rfl) ?_
          refine r_get C h fl_PM_20 0 rfl rfl d_PM_point_103 ?_
          refine lv_aload_n hx hb d_PM_point_106 rfl (lv_at hl 1 rfl) ?_
          refine r_get C h fl_PM_48 0 rfl rfl d_PM_point_107 ?_
          refine lv_iload_n hx hb d_PM_point_110 rfl (lv_at hl 2 rfl) ?_
          refine r_iast C h 4 rfl (mK M) (hlt) (rfl) (by decide) (g := fun j => nI (va_up (mD M) (mK M) dn j)) (upd_nI _ _ _) (ws' := wPM cA bd (mN M, mP M, mO M, mG M, mK M, va_up (mD M) (mK M) dn, mF M, mR M, mM M, mX M, mY M) T) (rfl) d_PM_point_111 (fun H locs h => ?_)
          refine lv_aload_n hx hb d_PM_point_112 rfl (lv_at hl 1 rfl) ?_
          refine r_get C h fl_PM_23 0 rfl rfl d_PM_point_113 ?_
          refine lv_aload_n hx hb d_PM_point_116 rfl (lv_at hl 1 rfl) ?_
          refine r_get C h fl_PM_48 0 rfl rfl d_PM_point_117 ?_
          refine lv_iload_n hx hb d_PM_point_120 rfl (lv_at hl 2 rfl) ?_
          refine lv_if_ne (tgt := 128) hx hb d_PM_point_121 (by decide) (fun _ => ?_) (fun q => absurd q (hne))
          refine lv_iload_n hx hb d_PM_point_128 rfl (lv_at hl 3 rfl) ?_
          refine r_iast C h 5 rfl (mK M) (hlt) (rfl) (by decide) (g := va_up (mF M) (mK M) (nI vn)) (upd_i _ _ _) (ws' := wPM cA bd (mN M, mP M, mO M, mG M, mK M, va_up (mD M) (mK M) dn, va_up (mF M) (mK M) (nI vn), mR M, mM M, mX M, mY M) T) (rfl) d_PM_point_129 (fun H locs h => ?_)
          refine lv_aload_n hx hb d_PM_point_130 rfl (lv_at hl 1 rfl) ?_
          refine r_get C h fl_PM_26 0 rfl rfl d_PM_point_131 ?_
          refine lv_aload_n hx hb d_PM_point_134 rfl (lv_at hl 1 rfl) ?_
          refine r_get C h fl_PM_48 0 rfl rfl d_PM_point_135 ?_
          refine lv_iload_n hx hb d_PM_point_138 rfl (lv_at hl 2 rfl) ?_
          refine lv_iconst (v := nI 4) hx hb d_PM_point_139 (by decide) ?_
          refine lv_icmp_ge (tgt := 147) hx hb d_PM_point_140 (by decide) (fun _ => ?_) (fun q => absurd (hge) q)
          refine lv_iconst (v := nI 0) hx hb d_PM_point_147 (by decide) ?_
          refine r_iast C h 6 rfl (mK M) (hlt) (rfl) (by decide) (g := va_up (mR M) (mK M) (nI 0)) (upd_i _ _ _) (ws' := wPM cA bd (mN M, mP M, mO M, mG M, mK M, va_up (mD M) (mK M) dn, va_up (mF M) (mK M) (nI vn), va_up (mR M) (mK M) (nI 0), mM M, mX M, mY M) T) (rfl) d_PM_point_148 (fun H locs h => ?_)
          refine lv_aload_n hx hb d_PM_point_149 rfl (lv_at hl 1 rfl) ?_
          refine r_get C h fl_PM_29 0 rfl rfl d_PM_point_150 ?_
          refine lv_aload_n hx hb d_PM_point_153 rfl (lv_at hl 1 rfl) ?_
          refine r_get C h fl_PM_48 0 rfl rfl d_PM_point_154 ?_
          refine lv_iload_n hx hb d_PM_point_157 rfl (lv_at hl 2 rfl) ?_
          refine lv_if_ne (tgt := 165) hx hb d_PM_point_158 (by decide) (fun _ => ?_) (fun q => absurd q (hne))
          refine lv_iload_n hx hb d_PM_point_165 rfl (lv_at hl 2 rfl) ?_
          refine lv_iconst (v := nI 4) hx hb d_PM_point_166 (by decide) ?_
          refine lv_icmp_ge (tgt := 175) hx hb d_PM_point_167 (by decide) (fun _ => ?_) (fun q => absurd (hge) q)
          refine lv_aload_n hx hb d_PM_point_175 rfl (lv_at hl 1 rfl) ?_
          refine r_get C h fl_PM_7 0 rfl rfl d_PM_point_176 ?_
          refine lv_iload_n hx hb d_PM_point_179 rfl (lv_at hl 3 rfl) ?_
          refine r_iald C h 1 rfl (vn) (by omega) (rfl) (by decide) (v := nI (mP M vn)) (rfl) d_PM_point_180 ?_
          refine r_iast C h 7 rfl (mK M) (hlt) (rfl) (by decide) (g := fun j => nI (va_up (mM M) (mK M) (mP M vn) j)) (upd_nI _ _ _) (ws' := wPM cA bd (mN M, mP M, mO M, mG M, mK M, va_up (mD M) (mK M) dn, va_up (mF M) (mK M) (nI vn), va_up (mR M) (mK M) (nI 0), va_up (mM M) (mK M) (mP M vn), mX M, mY M) T) (rfl) d_PM_point_181 (fun H locs h => ?_)
          refine lv_aload_n hx hb d_PM_point_182 rfl (lv_at hl 1 rfl) ?_
          refine r_get C h fl_PM_32 0 rfl rfl d_PM_point_183 ?_
          refine lv_aload_n hx hb d_PM_point_186 rfl (lv_at hl 1 rfl) ?_
          refine r_get C h fl_PM_48 0 rfl rfl d_PM_point_187 ?_
          refine lv_aload_n hx hb d_PM_point_190 rfl (lv_at hl 1 rfl) ?_
          refine r_get C h fl_PM_48 0 rfl rfl d_PM_point_191 ?_
          refine lv_iconst (v := 1) hx hb d_PM_point_194 (by decide) ?_
          refine lv_iadd hx hb d_PM_point_195 ?_
          refine w_i (nI (mK M + 1)) (nI_1 _) ?_
          refine r_iast C h 8 rfl (mK M) (hlt) (rfl) (by decide) (g := va_up (mX M) (mK M) (nI (mK M + 1))) (upd_i _ _ _) (ws' := wPM cA bd (mN M, mP M, mO M, mG M, mK M, va_up (mD M) (mK M) dn, va_up (mF M) (mK M) (nI vn), va_up (mR M) (mK M) (nI 0), va_up (mM M) (mK M) (mP M vn), va_up (mX M) (mK M) (nI (mK M + 1)), mY M) T) (rfl) d_PM_point_196 (fun H locs h => ?_)
          refine lv_aload_n hx hb d_PM_point_197 rfl (lv_at hl 1 rfl) ?_
          refine r_get C h fl_PM_35 0 rfl rfl d_PM_point_198 ?_
          refine lv_aload_n hx hb d_PM_point_201 rfl (lv_at hl 1 rfl) ?_
          refine r_get C h fl_PM_48 0 rfl rfl d_PM_point_202 ?_
          refine lv_iconst (v := (-1)) hx hb d_PM_point_205 (by decide) ?_
          refine r_iast C h 9 rfl (mK M) (hlt) (rfl) (by decide) (g := va_up (mY M) (mK M) (-1)) (upd_i _ _ _) (ws' := wPM cA bd (mN M, mP M, mO M, mG M, mK M, va_up (mD M) (mK M) dn, va_up (mF M) (mK M) (nI vn), va_up (mR M) (mK M) (nI 0), va_up (mM M) (mK M) (mP M vn), va_up (mX M) (mK M) (nI (mK M + 1)), va_up (mY M) (mK M) (-1)) T) (rfl) d_PM_point_206 (fun H locs h => ?_)
          refine lv_aload_n hx hb d_PM_point_207 rfl (lv_at hl 1 rfl) ?_
          refine lv_dup hx hb d_PM_point_208 rfl ?_
          refine r_get C h fl_PM_48 0 rfl rfl d_PM_point_209 ?_
          refine lv_iconst (v := 1) hx hb d_PM_point_212 (by decide) ?_
          refine lv_iadd hx hb d_PM_point_213 ?_
          refine w_i (nI (mK M + 1)) (nI_1 _) ?_
          refine r_put C h fl_PM_48 0 rfl rfl (rfl) (rfl) (Nat.le_of_ble_eq_true rfl) (ws' := wPM cA bd (mN M, mP M, mO M, mG M, mK M + 1, va_up (mD M) (mK M) dn, va_up (mF M) (mK M) (nI vn), va_up (mR M) (mK M) (nI 0), va_up (mM M) (mK M) (mP M vn), va_up (mX M) (mK M) (nI (mK M + 1)), va_up (mY M) (mK M) (-1)) T) (rfl) d_PM_point_214 (fun H locs h => ?_)
          refine lv_aload_n hx hb d_PM_point_217 rfl (lv_at hl 1 rfl) ?_
          refine r_get C h fl_PM_48 0 rfl rfl d_PM_point_218 ?_
          refine lv_iconst (v := 1) hx hb d_PM_point_221 (by decide) ?_
          refine lv_isub hx hb d_PM_point_222 ?_
          refine w_i (nI (mK M)) (nI_pred _) ?_
          exact r_iret C h hr (Or.inr ⟨dn, vn, 0, (mP M vn), hq0, hlt, rfl, by rw [if_neg hn0, if_neg hn0]⟩) d_PM_point_223
        · have hne : ¬ nI dn = 0 := nI_ne0 (by omega) (by omega)
          have hn0 : ¬ dn = 0 := by omega
          have hge : ¬ nI 4 ≤ nI dn := nI_ge (by omega) (by omega)
          refine lv_aload_n hx hb d_PM_point_102 rfl (lv_at hl 1 rfl) ?_
          refine r_get C h fl_PM_20 0 rfl rfl d_PM_point_103 ?_
          refine lv_aload_n hx hb d_PM_point_106 rfl (lv_at hl 1 rfl) ?_
          refine r_get C h fl_PM_48 0 rfl rfl d_PM_point_107 ?_
          refine lv_iload_n hx hb d_PM_point_110 rfl (lv_at hl 2 rfl) ?_
          refine r_iast C h 4 rfl (mK M) (hlt) (rfl) (by decide) (g := fun j => nI (va_up (mD M) (mK M) dn j)) (upd_nI _ _ _) (ws' := wPM cA bd (mN M, mP M, mO M, mG M, mK M, va_up (mD M) (mK M) dn, mF M, mR M, mM M, mX M, mY M) T) (rfl) d_PM_point_111 (fun H locs h => ?_)
          refine lv_aload_n hx hb d_PM_point_112 rfl (lv_at hl 1 rfl) ?_
          refine r_get C h fl_PM_23 0 rfl rfl d_PM_point_113 ?_
          refine lv_aload_n hx hb d_PM_point_116 rfl (lv_at hl 1 rfl) ?_
          refine r_get C h fl_PM_48 0 rfl rfl d_PM_point_117 ?_
          refine lv_iload_n hx hb d_PM_point_120 rfl (lv_at hl 2 rfl) ?_
          refine lv_if_ne (tgt := 128) hx hb d_PM_point_121 (by decide) (fun _ => ?_) (fun q => absurd q (hne))
          refine lv_iload_n hx hb d_PM_point_128 rfl (lv_at hl 3 rfl) ?_
          refine r_iast C h 5 rfl (mK M) (hlt) (rfl) (by decide) (g := va_up (mF M) (mK M) (nI vn)) (upd_i _ _ _) (ws' := wPM cA bd (mN M, mP M, mO M, mG M, mK M, va_up (mD M) (mK M) dn, va_up (mF M) (mK M) (nI vn), mR M, mM M, mX M, mY M) T) (rfl) d_PM_point_129 (fun H locs h => ?_)
          refine lv_aload_n hx hb d_PM_point_130 rfl (lv_at hl 1 rfl) ?_
          refine r_get C h fl_PM_26 0 rfl rfl d_PM_point_131 ?_
          refine lv_aload_n hx hb d_PM_point_134 rfl (lv_at hl 1 rfl) ?_
          refine r_get C h fl_PM_48 0 rfl rfl d_PM_point_135 ?_
          refine lv_iload_n hx hb d_PM_point_138 rfl (lv_at hl 2 rfl) ?_
          refine lv_iconst (v := nI 4) hx hb d_PM_point_139 (by decide) ?_
          refine lv_icmp_ge (tgt := 147) hx hb d_PM_point_140 (by decide) (fun q => absurd q (hge)) (fun _ => ?_)
          refine lv_iload_n hx hb d_PM_point_143 rfl (lv_at hl 4 rfl) ?_
          refine lv_goto (tgt := 148) hx hb d_PM_point_144 (by decide) ?_
          refine r_iast C h 6 rfl (mK M) (hlt) (rfl) (by decide) (g := va_up (mR M) (mK M) (nI a)) (upd_i _ _ _) (ws' := wPM cA bd (mN M, mP M, mO M, mG M, mK M, va_up (mD M) (mK M) dn, va_up (mF M) (mK M) (nI vn), va_up (mR M) (mK M) (nI a), mM M, mX M, mY M) T) (rfl) d_PM_point_148 (fun H locs h => ?_)
          refine lv_aload_n hx hb d_PM_point_149 rfl (lv_at hl 1 rfl) ?_
          refine r_get C h fl_PM_29 0 rfl rfl d_PM_point_150 ?_
          refine lv_aload_n hx hb d_PM_point_153 rfl (lv_at hl 1 rfl) ?_
          refine r_get C h fl_PM_48 0 rfl rfl d_PM_point_154 ?_
          refine lv_iload_n hx hb d_PM_point_157 rfl (lv_at hl 2 rfl) ?_
          refine lv_if_ne (tgt := 165) hx hb d_PM_point_158 (by decide) (fun _ => ?_) (fun q => absurd q (hne))
          refine lv_iload_n hx hb d_PM_point_165 rfl (lv_at hl 2 rfl) ?_
          refine lv_iconst (v := nI 4) hx hb d_PM_point_166 (by decide) ?_
          refine lv_icmp_ge (tgt := 175) hx hb d_PM_point_167 (by decide) (fun q => absurd q (hge)) (fun _ => ?_)
          refine lv_iload hx hb d_PM_point_170 (lv_at hl 5 rfl) ?_
          refine lv_goto (tgt := 181) hx hb d_PM_point_172 (by decide) ?_
          refine r_iast C h 7 rfl (mK M) (hlt) (rfl) (by decide) (g := fun j => nI (va_up (mM M) (mK M) b j)) (upd_nI _ _ _) (ws' := wPM cA bd (mN M, mP M, mO M, mG M, mK M, va_up (mD M) (mK M) dn, va_up (mF M) (mK M) (nI vn), va_up (mR M) (mK M) (nI a), va_up (mM M) (mK M) b, mX M, mY M) T) (rfl) d_PM_point_181 (fun H locs h => ?_)
          refine lv_aload_n hx hb d_PM_point_182 rfl (lv_at hl 1 rfl) ?_
          refine r_get C h fl_PM_32 0 rfl rfl d_PM_point_183 ?_
          refine lv_aload_n hx hb d_PM_point_186 rfl (lv_at hl 1 rfl) ?_
          refine r_get C h fl_PM_48 0 rfl rfl d_PM_point_187 ?_
          refine lv_aload_n hx hb d_PM_point_190 rfl (lv_at hl 1 rfl) ?_
          refine r_get C h fl_PM_48 0 rfl rfl d_PM_point_191 ?_
          refine lv_iconst (v := 1) hx hb d_PM_point_194 (by decide) ?_
          refine lv_iadd hx hb d_PM_point_195 ?_
          refine w_i (nI (mK M + 1)) (nI_1 _) ?_
          refine r_iast C h 8 rfl (mK M) (hlt) (rfl) (by decide) (g := va_up (mX M) (mK M) (nI (mK M + 1))) (upd_i _ _ _) (ws' := wPM cA bd (mN M, mP M, mO M, mG M, mK M, va_up (mD M) (mK M) dn, va_up (mF M) (mK M) (nI vn), va_up (mR M) (mK M) (nI a), va_up (mM M) (mK M) b, va_up (mX M) (mK M) (nI (mK M + 1)), mY M) T) (rfl) d_PM_point_196 (fun H locs h => ?_)
          refine lv_aload_n hx hb d_PM_point_197 rfl (lv_at hl 1 rfl) ?_
          refine r_get C h fl_PM_35 0 rfl rfl d_PM_point_198 ?_
          refine lv_aload_n hx hb d_PM_point_201 rfl (lv_at hl 1 rfl) ?_
          refine r_get C h fl_PM_48 0 rfl rfl d_PM_point_202 ?_
          refine lv_iconst (v := (-1)) hx hb d_PM_point_205 (by decide) ?_
          refine r_iast C h 9 rfl (mK M) (hlt) (rfl) (by decide) (g := va_up (mY M) (mK M) (-1)) (upd_i _ _ _) (ws' := wPM cA bd (mN M, mP M, mO M, mG M, mK M, va_up (mD M) (mK M) dn, va_up (mF M) (mK M) (nI vn), va_up (mR M) (mK M) (nI a), va_up (mM M) (mK M) b, va_up (mX M) (mK M) (nI (mK M + 1)), va_up (mY M) (mK M) (-1)) T) (rfl) d_PM_point_206 (fun H locs h => ?_)
          refine lv_aload_n hx hb d_PM_point_207 rfl (lv_at hl 1 rfl) ?_
          refine lv_dup hx hb d_PM_point_208 rfl ?_
          refine r_get C h fl_PM_48 0 rfl rfl d_PM_point_209 ?_
          refine lv_iconst (v := 1) hx hb d_PM_point_212 (by decide) ?_
          refine lv_iadd hx hb d_PM_point_213 ?_
          refine w_i (nI (mK M + 1)) (nI_1 _) ?_
          refine r_put C h fl_PM_48 0 rfl rfl (rfl) (rfl) (Nat.le_of_ble_eq_true rfl) (ws' := wPM cA bd (mN M, mP M, mO M, mG M, mK M + 1, va_up (mD M) (mK M) dn, va_up (mF M) (mK M) (nI vn), va_up (mR M) (mK M) (nI a), va_up (mM M) (mK M) b, va_up (mX M) (mK M) (nI (mK M + 1)), va_up (mY M) (mK M) (-1)) T) (rfl) d_PM_point_214 (fun H locs h => ?_)
          refine lv_aload_n hx hb d_PM_point_217 rfl (lv_at hl 1 rfl) ?_
          refine r_get C h fl_PM_48 0 rfl rfl d_PM_point_218 ?_
          refine lv_iconst (v := 1) hx hb d_PM_point_221 (by decide) ?_
          refine lv_isub hx hb d_PM_point_222 ?_
          refine w_i (nI (mK M)) (nI_pred _) ?_
          exact r_iret C h hr (Or.inr ⟨dn, vn, a, b, hq0, hlt, rfl, by rw [if_neg hn0, if_neg hn0]⟩) d_PM_point_223
      · refine lv_iconst (v := (-1)) hx hb d_PM_point_100 (by decide) ?_
        exact r_iret C h hr (Or.inl ⟨fun q => absurd (hg2.mpr q) (by rw [bI_0.mp c14]; decide), rfl, rfl⟩) d_PM_point_101
end
section
/-! PartsFlowModel.go: pure, then the walk -/
def isT (M : MS) (v q : Int32) (p : Nat) : Bool := decide (mF M p = v ∧ ¬ q < mR M p ∧ q < mR M p + nI (mM M p) ∧ ¬ mD M p = 3)
def trM (M : MS) (v q : Int32) (p : Nat) (w : Bool) : Bool := if isT M v q p = true then decide (mD M p = 1) else w
def g0M (M : MS) (v : Int32) : Bool := isN (mN M) v && mG M (ixI v)
abbrev RM (M : MS) (v q : Int32) (p : Nat) (w : Bool) : Prop := RP (mK M) (mX M) (mY M) (g0M M v) (trM M v q) p w
/-- what holds while going: all but the node e, that is being left, is on the pile or has its followers seen -/
def GJ (M : MS) (v q : Int32) (T : TS) (e : Nat) : Prop :=
  (∀ j w, j < mK M → tS T (nd j w) = true → RM M v q j w) ∧
  (∀ i, i < tH T → ∃ j w, j < mK M ∧ tL T i = nd j w ∧ tS T (nd j w) = true) ∧
  (∀ j w, j < mK M → tS T (nd j w) = true → (∃ i, i < tH T ∧ tL T i = nd j w) ∨ (∀ b, b < mK M → (mX M j = nI b ∨ mY M j = nI b) → tS T (nd b (trM M v q j w)) = true) ∨ nd j w = e) ∧
  (0 < mK M → tS T (nd 0 (g0M M v)) = true) ∧ tH T + cnt (tS T) 240 ≤ 240
theorem cnt_up {f : Nat → Bool} {k n : Nat} (hk : k < n) (hf : f k = false) : cnt (va_up f k true) n < cnt f n := by
  refine cnt_lt n (fun j _ h => ?_) ⟨k, hk, hf, va_up_self _ _ _⟩
  unfold va_up; split
  · rfl
  · exact h
theorem GJ.high {M : MS} {v q : Int32} {T : TS} {e : Nat} (hn : mK M ≤ 120) (h : GJ M v q T e) {j : Nat} {w : Bool} (hj : j < mK M) (hs : tS T (nd j w) = false) : tH T < 240 := by
  have h1 := cnt_up (n := 240) (by have := nd_lt w hj; omega) hs
  have h2 := h.2.2.2.2
  omega
abbrev muT (T : TS) : Nat := 2 * cnt (tS T) 240 + tH T
theorem GJ.come {M : MS} {v q : Int32} {T T' : TS} {e : Nat} {x : Int32} {w : Bool} (hn : mK M ≤ 120) (h : GJ M v q T e) (hc : CoP (mK M) T x w T') (hr : ∀ b, b < mK M → x = nI b → RM M v q b w) :
    GJ M v q T' e ∧ (∀ b, b < mK M → x = nI b → tS T' (nd b w) = true) ∧ (∀ k, tS T k = true → tS T' k = true) ∧ muT T' ≤ muT T := by
  obtain ⟨h1, h2, h3, h4, h5⟩ := h
  rcases hc with ⟨hs, rfl⟩ | ⟨b, hb, rfl, hs, rfl⟩
  · refine ⟨⟨h1, h2, h3, h4, h5⟩, fun b hb ex => ?_, fun _ z => z, Nat.le_refl _⟩
    rcases hs with hs | ⟨j, hj, ej, hs⟩
    · rw [ex, isN_nI (by omega) hb] at hs; cases hs
    · have := (nI_eq (by omega) (by omega)).mp (ex.symm.trans ej)
      subst this; exact hs
  · have hlt : nd b w < 240 := by have := nd_lt w hb; omega
    have hcu := cnt_up hlt hs
    have mono : ∀ k, tS T k = true → va_up (tS T) (nd b w) true k = true := by
      intro k z; unfold va_up; split
      · rfl
      · exact z
    refine ⟨⟨fun j w' hj hS => ?_, fun i hi => ?_, fun j w' hj hS => ?_, fun h0 => mono _ (h4 h0), ?_⟩, fun b' hb' ex => ?_, mono, ?_⟩
    · by_cases en : nd j w' = nd b w
      · obtain ⟨rfl, rfl⟩ := nd_inj en
        exact hr j hb rfl
      · exact h1 j w' hj (by rw [← va_up_ne (tS T) true en]; exact hS)
    · by_cases ei : i = tH T
      · subst ei
        exact ⟨b, w, hb, va_up_self _ _ _, va_up_self _ _ _⟩
      · have hi' : i < tH T + 1 := hi
        obtain ⟨j, w', hj, e1, e2⟩ := h2 i (by omega)
        exact ⟨j, w', hj, by rw [← e1]; exact va_up_ne _ _ ei, mono _ e2⟩
    · by_cases en : nd j w' = nd b w
      · exact Or.inl ⟨tH T, Nat.lt_succ_self _, by rw [en]; exact va_up_self _ _ _⟩
      · rcases h3 j w' hj (by rw [← va_up_ne (tS T) true en]; exact hS) with ⟨i, hi, e1⟩ | z | z
        · refine Or.inl ⟨i, Nat.lt_succ_of_lt hi, ?_⟩
          rw [← e1]; exact va_up_ne _ _ (by omega)
        · exact Or.inr (Or.inl (fun c hc ec => mono _ (z c hc ec)))
        · exact Or.inr (Or.inr z)
    · show tH T + 1 + cnt (va_up (tS T) (nd b w) true) 240 ≤ 240
      omega
    · have := (nI_eq (by omega) (by omega)).mp ex
      subst this; exact va_up_self _ _ _
    · show 2 * cnt (va_up (tS T) (nd b w) true) 240 + (tH T + 1) ≤ 2 * cnt (tS T) 240 + tH T
      omega
theorem GJ.pop {M : MS} {v q : Int32} {T : TS} {e' i : Nat} (h : GJ M v q T e') (he : ∀ j w, nd j w ≠ e' ∨ j ≥ mK M ∨ ∀ b, b < mK M → (mX M j = nI b ∨ mY M j = nI b) → tS T (nd b (trM M v q j w)) = true) (hi : tH T = i + 1) : GJ M v q (tS T, tL T, i) (tL T i) := by
  obtain ⟨h1, h2, h3, h4, h5⟩ := h
  refine ⟨h1, fun k hk => h2 k (by have : k < i := hk; omega), fun j w hj hS => ?_, h4, by show i + _ ≤ 240; rw [hi] at h5; have h6 : i + 1 + cnt (tS T) 240 ≤ 240 := h5; show i + cnt (tS T) 240 ≤ 240; omega⟩
  rcases h3 j w hj hS with ⟨k, hk, e1⟩ | z | z
  · by_cases ek : k = i
    · subst ek; exact Or.inr (Or.inr e1.symm)
    · exact Or.inl ⟨k, by show k < i; omega, e1⟩
  · exact Or.inr (Or.inl z)
  · rcases he j w with y | y | y
    · exact absurd z y
    · omega
    · exact Or.inr (Or.inl y)
theorem GJ.done {M : MS} {v q : Int32} {T : TS} {e' : Nat} (h : GJ M v q T e') (he : ∀ j w, nd j w ≠ e' ∨ j ≥ mK M ∨ ∀ b, b < mK M → (mX M j = nI b ∨ mY M j = nI b) → tS T (nd b (trM M v q j w)) = true) (hi : tH T = 0) : ∀ j w, j < mK M → (tS T (nd j w) = true ↔ RM M v q j w) := by
  obtain ⟨h1, h2, h3, h4, h5⟩ := h
  refine fun j w hj => ⟨h1 j w hj, fun hr => ?_⟩
  refine hr (fun j w => tS T (nd j w) = true) h4 (fun a w b ha hS hb ed => ?_)
  rcases h3 a w ha hS with ⟨k, hk, _⟩ | z | z
  · omega
  · exact z b hb ed
  · rcases he a w with y | y | y
    · exact absurd z y
    · omega
    · exact y b hb ed
theorem nd_div (j : Nat) (w : Bool) (h : nd j w < 2 ^ 31) : nI (nd j w) / nI 2 = nI j := by
  rw [pk_div h (by decide) (by decide)]; unfold nd; have := Bool.toNat_le w; rw [show (2 * j + w.toNat) / 2 = j by omega]
theorem nd_rem (j : Nat) (w : Bool) (h : nd j w < 2 ^ 31) : nI (nd j w) - nI (nd j w) / nI 2 * nI 2 = bI w := by
  rw [pk_rem h (by decide) (by decide)]; unfold nd; have := Bool.toNat_le w; rw [show (2 * j + w.toNat) % 2 = w.toNat by omega]; cases w <;> rfl
theorem GJ_init {M : MS} {v q : Int32} {S : Nat → Bool} {L : Nat → Nat} {T' : TS} (hn : mK M ≤ 120) (hz : ∀ k, k < 240 → S k = false) (hc : CoP (mK M) (S, L, 0) (nI 0) (g0M M v) T') : GJ M v q T' 240 := by
  have hcnt : ∀ n, n ≤ 240 → cnt S n = n := by
    intro n hn
    induction n with
    | zero => rfl
    | succ n ih => show cnt S n + _ = _; rw [ih (by omega), hz n (by omega)]; rfl
  rcases hc with ⟨hs, rfl⟩ | ⟨b, hb, ex, hs, rfl⟩
  · have h0 : mK M = 0 := by
      rcases hs with hs | ⟨j, hj, ej, hs⟩
      · rcases Nat.eq_zero_or_pos (mK M) with z | z
        · exact z
        · rw [isN_nI (by omega) z] at hs; cases hs
      · have h9 : S (nd j (g0M M v)) = true := hs
        rw [hz _ (by have := nd_lt (g0M M v) hj; omega)] at h9; cases h9
    refine ⟨fun j w hj => by omega, fun i hi => absurd hi (Nat.not_lt_zero _), fun j w hj => by omega, fun h => by omega, ?_⟩
    show 0 + cnt S 240 ≤ 240
    rw [hcnt 240 (Nat.le_refl _)]; exact Nat.le_refl _
  · have eb := (nI_eq (by omega) (by omega)).mp ex
    subst eb
    have key : ∀ j w, j < mK M → va_up S (nd 0 (g0M M v)) true (nd j w) = true → j = 0 ∧ w = g0M M v := by
      intro j w hj hS
      by_cases en : nd j w = nd 0 (g0M M v)
      · exact nd_inj en
      · rw [va_up_ne _ _ en, hz _ (by have := nd_lt w hj; omega)] at hS; cases hS
    refine ⟨fun j w hj hS => ?_, fun i hi => ?_, fun j w hj hS => ?_, fun _ => va_up_self _ _ _, ?_⟩
    · obtain ⟨rfl, rfl⟩ := key j w hj hS
      exact RP_0 hb
    · have e0 : i = 0 := by have : i < 0 + 1 := hi; omega
      subst e0
      exact ⟨0, g0M M v, hb, va_up_self L 0 (nd 0 (g0M M v)), va_up_self _ _ _⟩
    · obtain ⟨rfl, rfl⟩ := key j w hj hS
      exact Or.inl ⟨0, Nat.lt_succ_self _, va_up_self L 0 (nd 0 (g0M M v))⟩
    · have h1 := cnt_up (f := S) (n := 240) (by have := nd_lt (g0M M v) hb; omega) hs
      have h2 := hcnt 240 (Nat.le_refl _)
      show 0 + 1 + cnt (va_up S (nd 0 (g0M M v)) true) 240 ≤ 240
      omega
set_option maxHeartbeats 4000000 in
set_option maxRecDepth 100000 in
theorem c_PM_go (l : Launch) (D : va_G) (cA : Nat → ClassId) (bd : Nat → Nat) (M : MS) (T : TS) (v q : Int32) (hM : MIn M) : CtV l y_PM_go b_PM_go 7 none ({ frames := 2, cells := 0, slots := 0, locals := 43 }) D cA [.ref (bd 0), .int v, .int q] (wPM cA bd M T) (fun u => ∃ T', (∀ j w, j < mK M → (tS T' (nd j w) = true ↔ RM M v q j w)) ∧ u = wPM cA bd M T') := by
  refine CtV.of (by decide) (Nat.le_of_ble_eq_true rfl) ?_
  intro p e s m below meth c ls C hin hr h hl
  obtain ⟨hx, hb, hml, hown, hts, hK, hlk⟩ := id C
  have hNW := hK.2
  have hl : lv_has ls 7 [(0, .ref (bd 0)), (1, .int v), (2, .int q)] := hl
  have hK9 := hM.2.1
  have hN := hM.1
  refine lv_iconst (v := nI 0) hx hb d_PM_go_0 (by decide) ?_
  refine lv_istore_n (lv' := [(3, .int (nI 0)), (0, .ref (bd 0)), (1, .int v), (2, .int q)]) hx hb d_PM_go_1 rfl hl (by decide) rfl (fun ls hl => ?_)
  refine w_loop (σ := Nat × TS) 2 (fun x => 240 - x.1) (fun x H locs ls => x.1 ≤ 240 ∧ (∀ k, k < x.1 → tS x.2 k = false) ∧ Hp (va_A (wPM cA bd M T) s.heap.size) s D (wPM cA bd M x.2) H locs ∧ lv_has ls 7 [(3, .int (nI x.1)), (0, .ref (bd 0)), (1, .int v), (2, .int q)]) ?_ (0, T) ⟨Nat.zero_le _, fun k hk => absurd hk (Nat.not_lt_zero _), h, hl⟩
  intro ⟨i, T1⟩ H locs ls ⟨hi, hz, h, hl⟩ ih1
  dsimp only at hi hz h hl ih1
  refine lv_iload_n hx hb d_PM_go_2 rfl (lv_at hl 0 rfl) ?_
  refine lv_sipush (v := nI 240) hx hb d_PM_go_3 (by decide) ?_
  refine lv_icmp_ge (tgt := 22) hx hb d_PM_go_6 (by decide) (fun c1 => ?_) (fun c1 => ?_)
  · have hi240 : i = 240 := by rcases Nat.lt_or_ge i 240 with q9 | q9; exact absurd c1 (nI_ge q9 (by decide)); omega
    subst hi240
    have hl := lv_sub hl [1, 2, 3] rfl
    have hl : lv_has ls 7 [(0, .ref (bd 0)), (1, .int v), (2, .int q)] := hl
    refine lv_aload_n hx hb d_PM_go_22 rfl (lv_at hl 0 rfl) ?_
    refine lv_iconst (v := nI 0) hx hb d_PM_go_23 (by decide) ?_
    refine r_put C h fl_PM_58 0 rfl rfl (rfl) (rfl) (Nat.le_of_ble_eq_true rfl) (ws' := wPM cA bd M (tS T1, tL T1, 0)) (rfl) d_PM_go_24 (fun H locs h => ?_)
    refine lv_aload_n hx hb d_PM_go_27 rfl (lv_at hl 0 rfl) ?_
    refine lv_iconst (v := nI 0) hx hb d_PM_go_28 (by decide) ?_
    refine lv_aload_n hx hb d_PM_go_29 rfl (lv_at hl 0 rfl) ?_
    refine lv_iload_n hx hb d_PM_go_30 rfl (lv_at hl 1 rfl) ?_
    refine r_calli (As := [.int v]) (rest := [.int (nI 0), .ref (bd 0)]) C h cv_PM_51 (c_PM_isVariable l D cA bd M (tS T1, tL T1, 0) v) 0 rfl rfl rfl rfl hl.1 rfl (Nat.le_of_ble_eq_true rfl) rfl rfl ⟨Nat.le_of_ble_eq_true rfl, Nat.le_of_ble_eq_true rfl⟩ ⟨Nat.le_of_ble_eq_true rfl, Nat.le_of_ble_eq_true rfl⟩ d_PM_go_31 (fun r u H locs hq h => ?_)
    obtain ⟨rfl, rfl⟩ := hq
    refine w_join 51 [.int (nI 0), .ref (bd 0)] (fun v9 => v9 = bI (g0M M v)) (fun hj => ?_) (fun v9 hv9 => ?_)
    · refine lv_if_eq (tgt := 50) hx hb d_PM_go_34 (by decide) (fun c2 => ?_) (fun c2 => ?_)
      · refine lv_iconst (v := 0) hx hb d_PM_go_50 (by decide) ?_
        exact hj 0 (by unfold g0M; rw [bI_0.mp c2]; rfl)
      · obtain ⟨vn, hvn, ev⟩ := (isN_t (by omega)).mp (bI_n0.mp c2)
        have hix : ixI v = vn := by rw [ev]; exact nI_clamp (by omega)
        refine lv_aload_n hx hb d_PM_go_37 rfl (lv_at hl 0 rfl) ?_
        refine r_get C h fl_PM_17 0 rfl rfl d_PM_go_38 ?_
        refine lv_iload_n hx hb d_PM_go_41 rfl (lv_at hl 1 rfl) ?_
        refine r_zald C h 3 rfl (vn) (by omega) (ev) (by decide) (v := bI (mG M vn)) (rfl) d_PM_go_42 ?_
        refine lv_if_eq (tgt := 50) hx hb d_PM_go_43 (by decide) (fun c3 => ?_) (fun c3 => ?_)
        · refine lv_iconst (v := 0) hx hb d_PM_go_50 (by decide) ?_
          exact hj 0 (by unfold g0M; rw [hix, bI_0.mp c3, Bool.and_false]; rfl)
        · refine lv_iconst (v := 1) hx hb d_PM_go_46 (by decide) ?_
          refine lv_goto (tgt := 51) hx hb d_PM_go_47 (by decide) ?_
          exact hj 1 (by unfold g0M; rw [hix, bI_n0.mp c3, bI_n0.mp c2]; rfl)
    · subst hv9
      refine r_callv (As := [.int (nI 0), .int (bI (g0M M v))]) (rest := []) C h cv_PM_61 (c_PM_come l D cA bd M (tS T1, tL T1, 0) (nI 0) (g0M M v) hK9 (fun _ _ _ _ => (by decide : 0 < 240))) 0 rfl rfl rfl rfl hl.1 rfl (Nat.le_of_ble_eq_true rfl) rfl rfl ⟨Nat.le_of_ble_eq_true rfl, Nat.le_of_ble_eq_true rfl⟩ ⟨Nat.le_of_ble_eq_true rfl, Nat.le_of_ble_eq_true rfl⟩ d_PM_go_51 (fun u H locs hq h => ?_)
      obtain ⟨T2, hC2, rfl⟩ := hq
      have hGJ : GJ M v q T2 240 := GJ_init hK9 hz hC2
      have hex0 : ∀ j w, nd j w ≠ 240 ∨ j ≥ mK M ∨ ∀ b, b < mK M → (mX M j = nI b ∨ mY M j = nI b) → tS T2 (nd b (trM M v q j w)) = true := fun j w => by
        by_cases ej : j < mK M
        · exact Or.inl (by have := nd_lt w ej; omega)
        · exact Or.inr (Or.inl (by omega))
      refine w_loop (σ := TS) 54 (fun T => muT T) (fun T3 H locs ls => (∃ e', GJ M v q T3 e' ∧ ∀ j w, nd j w ≠ e' ∨ j ≥ mK M ∨ ∀ b, b < mK M → (mX M j = nI b ∨ mY M j = nI b) → tS T3 (nd b (trM M v q j w)) = true) ∧ Hp (va_A (wPM cA bd M T) s.heap.size) s D (wPM cA bd M T3) H locs ∧ lv_has ls 7 [(0, .ref (bd 0)), (1, .int v), (2, .int q)]) ?_ T2 ⟨⟨240, hGJ, hex0⟩, h, hl⟩
      clear hex0 hGJ hC2 hz h hl
      intro T3 H locs ls ⟨⟨e', hGJ, hex⟩, h, hl⟩ ih2
      refine lv_aload_n hx hb d_PM_go_54 rfl (lv_at hl 0 rfl) ?_
      refine r_get C h fl_PM_58 0 rfl rfl d_PM_go_55 ?_
      refine lv_if_le (tgt := 204) hx hb d_PM_go_58 (by decide) (fun c4 => ?_) (fun c4 => ?_)
      · have h0 : tH T3 = 0 := by rcases Nat.eq_zero_or_pos (tH T3) with z | z; exact z; exact absurd c4 (nI_nle z (by have := hGJ.2.2.2.2; omega))
        exact r_vret C h hr ⟨T3, hGJ.done hex h0, rfl⟩ d_PM_go_204
      · obtain ⟨i, hi⟩ : ∃ i, tH T3 = i + 1 := ⟨tH T3 - 1, by have : tH T3 ≠ 0 := fun z => c4 (by rw [z]; decide); omega⟩
        have hi240 : i < 240 := by have := hGJ.2.2.2.2; omega
        obtain ⟨j, wv, hj, hp, hS⟩ := hGJ.2.1 i (by omega)
        have hGP := hGJ.pop hex hi
        have hnd := nd_lt wv hj
        refine lv_aload_n hx hb d_PM_go_61 rfl (lv_at hl 0 rfl) ?_
        refine lv_dup hx hb d_PM_go_62 rfl ?_
        refine r_get C h fl_PM_58 0 rfl rfl d_PM_go_63 ?_
        refine lv_iconst (v := 1) hx hb d_PM_go_66 (by decide) ?_
        refine lv_isub hx hb d_PM_go_67 ?_
        refine w_i (nI i) (by rw [hi]; exact nI_pred i) ?_
        refine r_put C h fl_PM_58 0 rfl rfl (rfl) (rfl) (Nat.le_of_ble_eq_true rfl) (ws' := wPM cA bd M (tS T3, tL T3, i)) (rfl) d_PM_go_68 (fun H locs h => ?_)
        refine lv_aload_n hx hb d_PM_go_71 rfl (lv_at hl 0 rfl) ?_
        refine r_get C h fl_PM_41 0 rfl rfl d_PM_go_72 ?_
        refine lv_aload_n hx hb d_PM_go_75 rfl (lv_at hl 0 rfl) ?_
        refine r_get C h fl_PM_58 0 rfl rfl d_PM_go_76 ?_
        refine r_iald C h 11 rfl (i) (hi240) (rfl) (by decide) (v := nI (nd j wv)) (by show nI (tL T3 i) = _; rw [hp]) d_PM_go_79 ?_
        refine lv_iconst (v := nI 2) hx hb d_PM_go_80 (by decide) ?_
        refine lv_idiv hx hb d_PM_go_81 (by decide) ?_
        refine w_i (nI j) (nd_div j wv (by omega)) ?_
        refine lv_istore_n (lv' := [(3, .int (nI j)), (0, .ref (bd 0)), (1, .int v), (2, .int q)]) hx hb d_PM_go_82 rfl hl (by decide) rfl (fun ls hl => ?_)
        refine lv_aload_n hx hb d_PM_go_83 rfl (lv_at hl 1 rfl) ?_
        refine r_get C h fl_PM_41 0 rfl rfl d_PM_go_84 ?_
        refine lv_aload_n hx hb d_PM_go_87 rfl (lv_at hl 1 rfl) ?_
        refine r_get C h fl_PM_58 0 rfl rfl d_PM_go_88 ?_
        refine r_iald C h 11 rfl (i) (hi240) (rfl) (by decide) (v := nI (nd j wv)) (by show nI (tL T3 i) = _; rw [hp]) d_PM_go_91 ?_
        refine lv_iconst (v := nI 2) hx hb d_PM_go_92 (by decide) ?_
        refine lv_irem hx hb d_PM_go_93 (by decide) ?_
        refine w_i (bI wv) (nd_rem j wv (by omega)) ?_
        refine lv_istore (lv' := [(4, .int (bI wv)), (3, .int (nI j)), (0, .ref (bd 0)), (1, .int v), (2, .int q)]) hx hb d_PM_go_94 hl (by decide) rfl (fun ls hl => ?_)
        refine lv_aload_n hx hb d_PM_go_96 rfl (lv_at hl 2 rfl) ?_
        refine r_get C h fl_PM_23 0 rfl rfl d_PM_go_97 ?_
        refine lv_iload_n hx hb d_PM_go_100 rfl (lv_at hl 1 rfl) ?_
        refine r_iald C h 5 rfl (j) (by omega) (rfl) (by decide) (v := mF M j) (rfl) d_PM_go_101 ?_
        refine lv_iload_n hx hb d_PM_go_102 rfl (lv_at hl 3 rfl) ?_
        have hj9 := hj
        refine w_join 148 [] (fun v9 => v9 = bI (isT M v q j)) (fun hj => ?_) (fun v9 hv9 => ?_)
        · refine lv_icmp_ne (tgt := 147) hx hb d_PM_go_103 (by decide) (fun d1 => ?_) (fun d1 => ?_)
          · refine lv_iconst (v := 0) hx hb d_PM_go_147 (by decide) ?_
            exact hj 0 (by unfold isT; rw [decide_eq_false (fun z => d1 z.1)]; rfl)
          · refine lv_iload_n hx hb d_PM_go_106 rfl (lv_at hl 4 rfl) ?_
            refine lv_aload_n hx hb d_PM_go_107 rfl (lv_at hl 2 rfl) ?_
            refine r_get C h fl_PM_26 0 rfl rfl d_PM_go_108 ?_
            refine lv_iload_n hx hb d_PM_go_111 rfl (lv_at hl 1 rfl) ?_
            refine r_iald C h 6 rfl (j) (by omega) (rfl) (by decide) (v := mR M j) (rfl) d_PM_go_112 ?_
            refine lv_icmp_lt (tgt := 147) hx hb d_PM_go_113 (by decide) (fun d2 => ?_) (fun d2 => ?_)
            · refine lv_iconst (v := 0) hx hb d_PM_go_147 (by decide) ?_
              exact hj 0 (by unfold isT; rw [decide_eq_false (fun z => z.2.1 d2)]; rfl)
            · refine lv_iload_n hx hb d_PM_go_116 rfl (lv_at hl 4 rfl) ?_
              refine lv_aload_n hx hb d_PM_go_117 rfl (lv_at hl 2 rfl) ?_
              refine r_get C h fl_PM_26 0 rfl rfl d_PM_go_118 ?_
              refine lv_iload_n hx hb d_PM_go_121 rfl (lv_at hl 1 rfl) ?_
              refine r_iald C h 6 rfl (j) (by omega) (rfl) (by decide) (v := mR M j) (rfl) d_PM_go_122 ?_
              refine lv_aload_n hx hb d_PM_go_123 rfl (lv_at hl 2 rfl) ?_
              refine r_get C h fl_PM_29 0 rfl rfl d_PM_go_124 ?_
              refine lv_iload_n hx hb d_PM_go_127 rfl (lv_at hl 1 rfl) ?_
              refine r_iald C h 7 rfl (j) (by omega) (rfl) (by decide) (v := nI (mM M j)) (rfl) d_PM_go_128 ?_
              refine lv_iadd hx hb d_PM_go_129 ?_
              refine lv_icmp_ge (tgt := 147) hx hb d_PM_go_130 (by decide) (fun d3 => ?_) (fun d3 => ?_)
              · refine lv_iconst (v := 0) hx hb d_PM_go_147 (by decide) ?_
                exact hj 0 (by unfold isT; rw [decide_eq_false (fun z => Int32.not_lt.mpr d3 z.2.2.1)]; rfl)
              · refine lv_aload_n hx hb d_PM_go_133 rfl (lv_at hl 2 rfl) ?_
                refine r_get C h fl_PM_20 0 rfl rfl d_PM_go_134 ?_
                refine lv_iload_n hx hb d_PM_go_137 rfl (lv_at hl 1 rfl) ?_
                refine r_iald C h 4 rfl (j) (by omega) (rfl) (by decide) (v := nI (mD M j)) (rfl) d_PM_go_138 ?_
                refine lv_iconst (v := nI 3) hx hb d_PM_go_139 (by decide) ?_
                refine lv_icmp_eq (tgt := 147) hx hb d_PM_go_140 (by decide) (fun d4 => ?_) (fun d4 => ?_)
                · refine lv_iconst (v := 0) hx hb d_PM_go_147 (by decide) ?_
                  exact hj 0 (by unfold isT; rw [decide_eq_false (fun z => z.2.2.2 ((nI_eq (by have := (hM.2.2.2 j hj9).1; omega) (by decide)).mp d4))]; rfl)
                · refine lv_iconst (v := 1) hx hb d_PM_go_143 (by decide) ?_
                  refine lv_goto (tgt := 148) hx hb d_PM_go_144 (by decide) ?_
                  exact hj 1 (by unfold isT; rw [decide_eq_true ⟨d1, d2, Int32.not_le.mp d3, fun z => d4 (by rw [z])⟩]; rfl)
        · subst hv9
          refine lv_istore (lv' := [(5, .int (bI (isT M v q j))), (4, .int (bI wv)), (3, .int (nI j)), (0, .ref (bd 0)), (1, .int v), (2, .int q)]) hx hb d_PM_go_148 hl (by decide) rfl (fun ls hl => ?_)
          refine lv_iload hx hb d_PM_go_150 (lv_at hl 0 rfl) ?_
          refine w_join 175 [] (fun v9 => v9 = bI (trM M v q j wv)) (fun hj => ?_) (fun v9 hv9 => ?_)
          · refine lv_if_ne (tgt := 160) hx hb d_PM_go_152 (by decide) (fun d5 => ?_) (fun d5 => ?_)
            · refine lv_aload_n hx hb d_PM_go_160 rfl (lv_at hl 3 rfl) ?_
              refine r_get C h fl_PM_20 0 rfl rfl d_PM_go_161 ?_
              refine lv_iload_n hx hb d_PM_go_164 rfl (lv_at hl 2 rfl) ?_
              refine r_iald C h 4 rfl (j) (by omega) (rfl) (by decide) (v := nI (mD M j)) (rfl) d_PM_go_165 ?_
              refine lv_iconst (v := 1) hx hb d_PM_go_166 (by decide) ?_
              refine lv_icmp_ne (tgt := 174) hx hb d_PM_go_167 (by decide) (fun d6 => ?_) (fun d6 => ?_)
              · refine lv_iconst (v := 0) hx hb d_PM_go_174 (by decide) ?_
                exact hj 0 (by unfold trM; rw [if_pos (bI_n0.mp d5), decide_eq_false (fun z => d6 (by rw [z]; rfl))]; rfl)
              · refine lv_iconst (v := 1) hx hb d_PM_go_170 (by decide) ?_
                refine lv_goto (tgt := 175) hx hb d_PM_go_171 (by decide) ?_
                exact hj 1 (by unfold trM; rw [if_pos (bI_n0.mp d5), decide_eq_true ((nI_eq (by have := (hM.2.2.2 j hj9).1; omega) (by decide)).mp (d6 : nI (mD M j) = nI 1))]; rfl)
            · refine lv_iload hx hb d_PM_go_155 (lv_at hl 1 rfl) ?_
              refine lv_goto (tgt := 175) hx hb d_PM_go_157 (by decide) ?_
              exact hj (bI wv) (by unfold trM; rw [if_neg (by rw [bI_0.mp d5]; decide)])
          · subst hv9
            obtain ⟨t, et⟩ : ∃ t : Bool, t = trM M v q j wv := ⟨_, rfl⟩
            rw [← et]
            have hRj := hGP.1 j wv hj9 hS
            refine lv_istore (lv' := [(6, .int (bI t)), (5, .int (bI (isT M v q j))), (4, .int (bI wv)), (3, .int (nI j)), (0, .ref (bd 0)), (1, .int v), (2, .int q)]) hx hb d_PM_go_175 hl (by decide) rfl (fun ls hl => ?_)
            refine lv_aload_n hx hb d_PM_go_177 rfl (lv_at hl 4 rfl) ?_
            refine lv_aload_n hx hb d_PM_go_178 rfl (lv_at hl 4 rfl) ?_
            refine r_get C h fl_PM_32 0 rfl rfl d_PM_go_179 ?_
            refine lv_iload_n hx hb d_PM_go_182 rfl (lv_at hl 3 rfl) ?_
            refine r_iald C h 8 rfl (j) (by omega) (rfl) (by decide) (v := mX M j) (rfl) d_PM_go_183 ?_
            refine lv_iload hx hb d_PM_go_184 (lv_at hl 0 rfl) ?_
            refine r_callv (As := [.int (mX M j), .int (bI t)]) (rest := []) C h cv_PM_61 (c_PM_come l D cA bd M (tS T3, tL T3, i) (mX M j) t hK9 (fun b hb _ hs => hGP.high hK9 hb hs)) 0 rfl rfl rfl rfl hl.1 rfl (Nat.le_of_ble_eq_true rfl) rfl rfl ⟨Nat.le_of_ble_eq_true rfl, Nat.le_of_ble_eq_true rfl⟩ ⟨Nat.le_of_ble_eq_true rfl, Nat.le_of_ble_eq_true rfl⟩ d_PM_go_186 (fun u H locs hq h => ?_)
            obtain ⟨T5, hC5, rfl⟩ := hq
            obtain ⟨hG5, hs5, hm5, hu5⟩ := hGP.come hK9 hC5 (fun b hb ex => by rw [et]; exact RP_s hj9 hRj hb (Or.inl ex))
            refine lv_aload_n hx hb d_PM_go_189 rfl (lv_at hl 4 rfl) ?_
            refine lv_aload_n hx hb d_PM_go_190 rfl (lv_at hl 4 rfl) ?_
            refine r_get C h fl_PM_35 0 rfl rfl d_PM_go_191 ?_
            refine lv_iload_n hx hb d_PM_go_194 rfl (lv_at hl 3 rfl) ?_
            refine r_iald C h 9 rfl (j) (by omega) (rfl) (by decide) (v := mY M j) (rfl) d_PM_go_195 ?_
            refine lv_iload hx hb d_PM_go_196 (lv_at hl 0 rfl) ?_
            refine r_callv (As := [.int (mY M j), .int (bI t)]) (rest := []) C h cv_PM_61 (c_PM_come l D cA bd M T5 (mY M j) t hK9 (fun b hb _ hs => hG5.high hK9 hb hs)) 0 rfl rfl rfl rfl hl.1 rfl (Nat.le_of_ble_eq_true rfl) rfl rfl ⟨Nat.le_of_ble_eq_true rfl, Nat.le_of_ble_eq_true rfl⟩ ⟨Nat.le_of_ble_eq_true rfl, Nat.le_of_ble_eq_true rfl⟩ d_PM_go_198 (fun u H locs hq h => ?_)
            obtain ⟨T6, hC6, rfl⟩ := hq
            obtain ⟨hG6, hs6, hm6, hu6⟩ := hG5.come hK9 hC6 (fun b hb ex => by rw [et]; exact RP_s hj9 hRj hb (Or.inr ex))
            refine lv_goto (tgt := 54) hx hb d_PM_go_201 (by decide) ?_
            refine ih2 T6 H locs ls ⟨⟨tL T3 i, hG6, fun j2 w2 => ?_⟩, h, lv_sub hl [4, 5, 6] rfl⟩ ?_
            · by_cases en : nd j2 w2 = tL T3 i
              · rw [hp] at en
                obtain ⟨rfl, rfl⟩ := nd_inj en
                refine Or.inr (Or.inr (fun b hb ed => ?_))
                rw [← et]
                rcases ed with ed | ed
                · exact hm6 _ (hs5 b hb ed)
                · exact hs6 b hb ed
              · exact Or.inl en
            · have e1 : muT (tS T3, tL T3, i) + 1 = muT T3 := by show 2 * cnt (tS T3) 240 + i + 1 = 2 * cnt (tS T3) 240 + tH T3; omega
              omega
  · have hlt : i < 240 := by rcases Nat.lt_or_ge i 240 with q9 | q9; exact q9; exact absurd (nI_le q9 (by omega)) c1
    refine lv_aload_n hx hb d_PM_go_9 rfl (lv_at hl 1 rfl) ?_
    refine r_get C h fl_PM_38 0 rfl rfl d_PM_go_10 ?_
    refine lv_iload_n hx hb d_PM_go_13 rfl (lv_at hl 0 rfl) ?_
    refine lv_iconst (v := bI false) hx hb d_PM_go_14 (by decide) ?_
    refine r_zast C h 10 rfl (i) (hlt) (rfl) (by decide) (g := fun j => bI (va_up (tS T1) i false j)) (upd_bI _ _ _) (ws' := wPM cA bd M (va_up (tS T1) i false, tL T1, tH T1)) (rfl) d_PM_go_15 (fun H locs h => ?_)
    refine lv_iinc (v := nI (i + 1)) (lv' := [(3, .int (nI (i + 1))), (0, .ref (bd 0)), (1, .int v), (2, .int q)]) hx hb d_PM_go_16 hl (k := 0) rfl (nI_iinc i) (by decide) rfl (fun ls hl => ?_)
    refine lv_goto (tgt := 2) hx hb d_PM_go_19 (by decide) ?_
    refine ih1 (i + 1, (va_up (tS T1) i false, tL T1, tH T1)) H locs ls ⟨hlt, fun k hk => ?_, h, hl⟩ (by show 240 - (i + 1) < 240 - i; omega)
    show va_up (tS T1) i false k = false
    have hk9 : k < i + 1 := hk
    by_cases ek : k = i
    · subst ek; exact va_up_self _ _ _
    · rw [va_up_ne _ _ ek]; exact hz k (by omega)
end
section
/-! PartsFlowModel: isReached, bits, without, having, fault -/
theorem RM_m2 {M : MS} (hM : MIn M) {j : Nat} {w : Bool} : RM M (-2) 0 j w ↔ (w = false ∧ RN (mK M) (mX M) (mY M) j) := by
  have hN := hM.1
  have hg : g0M M (-2) = false := by
    unfold g0M
    have : isN (mN M) (-2) = false := by unfold isN; rw [decide_eq_false (by decide)]; rfl
    rw [this]; rfl
  have ht : ∀ a, a < mK M → ∀ w, trM M (-2) 0 a w = w := by
    intro a ha w
    unfold trM
    rw [if_neg]
    intro q
    have q1 := (of_decide_eq_true q).1
    rcases (hM.2.2.2 a ha).2 with ⟨-, e⟩ | ⟨-, v, -, hv, e, -⟩
    · rw [e] at q1; exact absurd q1 (by decide)
    · rw [e] at q1
      have h1 := nI_toInt (n := v) (by omega)
      rw [q1, show (-2 : Int32).toInt = -2 from rfl] at h1
      omega
  have key : RM M (-2) 0 j w ↔ RP (mK M) (mX M) (mY M) false (fun _ w => w) j w := by
    show RP (mK M) (mX M) (mY M) (g0M M (-2)) (trM M (-2) 0) j w ↔ _
    rw [hg]
    exact RP_iff (fun _ _ => ⟨rfl, rfl⟩) ht
  rw [key]
  constructor
  · intro h
    have hw : w = false := h (fun _ w => w = false) (fun _ => rfl) (fun a w b _ hS _ _ => hS)
    subst hw
    exact ⟨rfl, h⟩
  · rintro ⟨rfl, h⟩
    exact h
noncomputable def mReach (M : MS) (x : Int32) : Bool := isN (mK M) x && dcd (RN (mK M) (mX M) (mY M) (ixI x))
def mBn (M : MS) (x y : Int32) : Nat := if isN (mK M) x = true ∧ isN (mN M) y = true then mP M (ixI y) else 0
noncomputable def mBits (M : MS) (x y : Int32) (w : Bool) : Int32 := orB (fun q => dcd (RM M y (nI q) (ixI x) w)) (mBn M x y)
noncomputable def mFltP (M : MS) (p : Nat) : Int32 :=
  if mD M p = 0 ∨ 3 < mD M p ∨ dcd (RN (mK M) (mX M) (mY M) p) = false then 0
  else if mD M p = 1 then (if mO M (ixI (mF M p)) = true then (if mM M p < mP M (ixI (mF M p)) then nI 3 else if mBits M (nI p) (mF M p) true = 0 then 0 else nI 2) else 0)
  else (if mBits M (nI p) (mF M p) false &&& (((1 <<< (nI (mM M p) &&& 31)) - 1) <<< (mR M p &&& 31)) = 0 then 0 else 1)
noncomputable def mFault (M : MS) (x : Int32) : Int32 := if isN (mK M) x = true then mFltP M (ixI x) else -1
set_option maxHeartbeats 4000000 in
set_option maxRecDepth 100000 in
theorem c_PM_isReached (l : Launch) (D : va_G) (cA : Nat → ClassId) (bd : Nat → Nat) (M : MS) (T : TS) (x : Int32) (hM : MIn M) : CtI l y_PM_isReached b_PM_isReached 2 (some .boolean) ({ frames := 3, cells := 0, slots := 0, locals := 69 }) D cA [.ref (bd 0), .int x] (wPM cA bd M T) (fun r u => r = bI (mReach M x) ∧ ∃ T', u = wPM cA bd M T') := by
  refine CtI.of (by decide) (Nat.le_of_ble_eq_true rfl) ?_
  intro p e s m below meth c ls C hin hr h hl
  obtain ⟨hx, hb, hml, hown, hts, hK, hlk⟩ := id C
  have hNW := hK.2
  have hl : lv_has ls 2 [(0, .ref (bd 0)), (1, .int x)] := hl
  have hK9 := hM.2.1
  refine lv_aload_n hx hb d_PM_isReached_0 rfl (lv_at hl 0 rfl) ?_
  refine lv_bipush (v := (-2)) hx hb d_PM_isReached_1 (by decide) ?_
  refine lv_iconst (v := 0) hx hb d_PM_isReached_3 (by decide) ?_
  refine r_callv (As := [.int (-2), .int 0]) (rest := []) C h cv_PM_65 (c_PM_go l D cA bd M T (-2) 0 hM) 0 rfl rfl rfl rfl hl.1 rfl (Nat.le_of_ble_eq_true rfl) rfl rfl ⟨Nat.le_of_ble_eq_true rfl, Nat.le_of_ble_eq_true rfl⟩ ⟨Nat.le_of_ble_eq_true rfl, Nat.le_of_ble_eq_true rfl⟩ d_PM_isReached_4 (fun u H locs hq h => ?_)
  obtain ⟨T1, hT1, rfl⟩ := hq
  refine lv_aload_n hx hb d_PM_isReached_7 rfl (lv_at hl 0 rfl) ?_
  refine lv_iload_n hx hb d_PM_isReached_8 rfl (lv_at hl 1 rfl) ?_
  refine r_calli (As := [.int x]) (rest := []) C h cv_PM_55 (c_PM_isPoint l D cA bd M T1 x) 0 rfl rfl rfl rfl hl.1 rfl (Nat.le_of_ble_eq_true rfl) rfl rfl ⟨Nat.le_of_ble_eq_true rfl, Nat.le_of_ble_eq_true rfl⟩ ⟨Nat.le_of_ble_eq_true rfl, Nat.le_of_ble_eq_true rfl⟩ d_PM_isReached_9 (fun r u H locs hq h => ?_)
  obtain ⟨rfl, rfl⟩ := hq
  refine lv_if_eq (tgt := 43) hx hb d_PM_isReached_12 (by decide) (fun c1 => ?_) (fun c1 => ?_)
  · refine lv_iconst (v := 0) hx hb d_PM_isReached_43 (by decide) ?_
    exact r_zret false C h hr rfl ⟨by unfold mReach; rw [bI_0.mp c1]; rfl, T1, rfl⟩ d_PM_isReached_44
  · obtain ⟨j, hj, rfl⟩ := (isN_t (by omega)).mp (bI_n0.mp c1)
    have hix : ixI (nI j) = j := nI_clamp (by omega)
    have hf := (hT1 j false hj).trans (RM_m2 hM)
    have ht := (hT1 j true hj).trans (RM_m2 hM)
    have hn0 := nd_lt false hj
    have hn1 := nd_lt true hj
    refine lv_aload_n hx hb d_PM_isReached_15 rfl (lv_at hl 0 rfl) ?_
    refine r_get C h fl_PM_38 0 rfl rfl d_PM_isReached_16 ?_
    refine lv_iconst (v := nI 2) hx hb d_PM_isReached_19 (by decide) ?_
    refine lv_iload_n hx hb d_PM_isReached_20 rfl (lv_at hl 1 rfl) ?_
    refine lv_imul hx hb d_PM_isReached_21 ?_
    refine w_i (nI (nd j false)) (pk_mul 2 j) ?_
    refine r_zald C h 10 rfl (nd j false) (by omega) (rfl) (by decide) (v := bI (tS T1 (nd j false))) (rfl) d_PM_isReached_22 ?_
    refine lv_if_ne (tgt := 39) hx hb d_PM_isReached_23 (by decide) (fun c2 => ?_) (fun c2 => ?_)
    · refine lv_iconst (v := 1) hx hb d_PM_isReached_39 (by decide) ?_
      refine lv_goto (tgt := 44) hx hb d_PM_isReached_40 (by decide) ?_
      exact r_zret true C h hr rfl ⟨by unfold mReach; rw [isN_nI (by omega) hj, hix, dcd_t.mpr (hf.mp (bI_n0.mp c2)).2]; rfl, T1, rfl⟩ d_PM_isReached_44
    · refine lv_aload_n hx hb d_PM_isReached_26 rfl (lv_at hl 0 rfl) ?_
      refine r_get C h fl_PM_38 0 rfl rfl d_PM_isReached_27 ?_
      refine lv_iconst (v := nI 2) hx hb d_PM_isReached_30 (by decide) ?_
      refine lv_iload_n hx hb d_PM_isReached_31 rfl (lv_at hl 1 rfl) ?_
      refine lv_imul hx hb d_PM_isReached_32 ?_
      refine lv_iconst (v := 1) hx hb d_PM_isReached_33 (by decide) ?_
      refine lv_iadd hx hb d_PM_isReached_34 ?_
      refine w_i (nI (nd j true)) (nd_eq j true) ?_
      refine r_zald C h 10 rfl (nd j true) (by omega) (rfl) (by decide) (v := bI (tS T1 (nd j true))) (rfl) d_PM_isReached_35 ?_
      refine lv_if_eq (tgt := 43) hx hb d_PM_isReached_36 (by decide) (fun c3 => ?_) (fun c3 => ?_)
      · refine lv_iconst (v := 0) hx hb d_PM_isReached_43 (by decide) ?_
        exact r_zret false C h hr rfl ⟨by unfold mReach; rw [isN_nI (by omega) hj, hix, dcd_f.mpr (fun z => by have := hf.mpr ⟨rfl, z⟩; rw [bI_0.mp c2] at this; cases this)]; rfl, T1, rfl⟩ d_PM_isReached_44
      · exact absurd (ht.mp (bI_n0.mp c3)).1 (by decide)
set_option maxHeartbeats 4000000 in
set_option maxRecDepth 100000 in
theorem c_PM_bits (l : Launch) (D : va_G) (cA : Nat → ClassId) (bd : Nat → Nat) (M : MS) (T : TS) (x y : Int32) (w : Bool) (hM : MIn M) : CtI l y_PM_bits b_PM_bits 6 (some .int) ({ frames := 3, cells := 0, slots := 0, locals := 69 }) D cA [.ref (bd 0), .int x, .int y, .int (bI w)] (wPM cA bd M T) (fun r u => r = mBits M x y w ∧ ∃ T', u = wPM cA bd M T') := by
  refine CtI.of (by decide) (Nat.le_of_ble_eq_true rfl) ?_
  intro p e s m below meth c ls C hin hr h hl
  obtain ⟨hx, hb, hml, hown, hts, hK, hlk⟩ := id C
  have hNW := hK.2
  have hl : lv_has ls 6 [(0, .ref (bd 0)), (1, .int x), (2, .int y), (3, .int (bI w))] := hl
  have hK9 := hM.2.1
  have hN := hM.1
  refine lv_iconst (v := orB (fun q => dcd (RM M y (nI q) (ixI x) w)) 0) hx hb d_PM_bits_0 (rfl) ?_
  refine lv_istore (lv' := [(4, .int (orB (fun q => dcd (RM M y (nI q) (ixI x) w)) 0)), (0, .ref (bd 0)), (1, .int x), (2, .int y), (3, .int (bI w))]) hx hb d_PM_bits_1 hl (by decide) rfl (fun ls hl => ?_)
  refine lv_iconst (v := nI 0) hx hb d_PM_bits_3 (by decide) ?_
  refine lv_istore (lv' := [(5, .int (nI 0)), (4, .int (orB (fun q => dcd (RM M y (nI q) (ixI x) w)) 0)), (0, .ref (bd 0)), (1, .int x), (2, .int y), (3, .int (bI w))]) hx hb d_PM_bits_4 hl (by decide) rfl (fun ls hl => ?_)
  refine w_loop (σ := Nat × TS) 6 (fun z => mBn M x y - z.1) (fun z H locs ls => z.1 ≤ mBn M x y ∧ Hp (va_A (wPM cA bd M T) s.heap.size) s D (wPM cA bd M z.2) H locs ∧ lv_has ls 6 [(5, .int (nI z.1)), (4, .int (orB (fun q => dcd (RM M y (nI q) (ixI x) w)) z.1)), (0, .ref (bd 0)), (1, .int x), (2, .int y), (3, .int (bI w))]) ?_ (0, T) ⟨Nat.zero_le _, h, hl⟩
  intro ⟨i, T1⟩ H locs ls ⟨hi, h, hl⟩ ih
  dsimp only at hi h hl ih
  refine lv_aload_n hx hb d_PM_bits_6 rfl (lv_at hl 2 rfl) ?_
  refine lv_iload_n hx hb d_PM_bits_7 rfl (lv_at hl 3 rfl) ?_
  refine r_calli (As := [.int x]) (rest := []) C h cv_PM_55 (c_PM_isPoint l D cA bd M T1 x) 0 rfl rfl rfl rfl hl.1 rfl (Nat.le_of_ble_eq_true rfl) rfl rfl ⟨Nat.le_of_ble_eq_true rfl, Nat.le_of_ble_eq_true rfl⟩ ⟨Nat.le_of_ble_eq_true rfl, Nat.le_of_ble_eq_true rfl⟩ d_PM_bits_8 (fun r u H locs hq h => ?_)
  obtain ⟨rfl, rfl⟩ := hq
  refine lv_if_eq (tgt := 73) hx hb d_PM_bits_11 (by decide) (fun c1 => ?_) (fun c1 => ?_)
  · have hB : mBn M x y = 0 := by unfold mBn; rw [if_neg (fun z => by rw [bI_0.mp c1] at z; exact absurd z.1 (by decide))]
    have hi0 : i = mBn M x y := by omega
    subst hi0
    refine lv_iload hx hb d_PM_bits_73 (lv_at hl 1 rfl) ?_
    exact r_iret C h hr ⟨rfl, T1, rfl⟩ d_PM_bits_75
  · refine lv_aload_n hx hb d_PM_bits_14 rfl (lv_at hl 2 rfl) ?_
    refine lv_iload_n hx hb d_PM_bits_15 rfl (lv_at hl 4 rfl) ?_
    refine r_calli (As := [.int y]) (rest := []) C h cv_PM_51 (c_PM_isVariable l D cA bd M T1 y) 0 rfl rfl rfl rfl hl.1 rfl (Nat.le_of_ble_eq_true rfl) rfl rfl ⟨Nat.le_of_ble_eq_true rfl, Nat.le_of_ble_eq_true rfl⟩ ⟨Nat.le_of_ble_eq_true rfl, Nat.le_of_ble_eq_true rfl⟩ d_PM_bits_16 (fun r u H locs hq h => ?_)
    obtain ⟨rfl, rfl⟩ := hq
    refine lv_if_eq (tgt := 73) hx hb d_PM_bits_19 (by decide) (fun c2 => ?_) (fun c2 => ?_)
    · have hB : mBn M x y = 0 := by unfold mBn; rw [if_neg (fun z => by rw [bI_0.mp c2] at z; exact absurd z.2 (by decide))]
      have hi0 : i = mBn M x y := by omega
      subst hi0
      refine lv_iload hx hb d_PM_bits_73 (lv_at hl 1 rfl) ?_
      exact r_iret C h hr ⟨rfl, T1, rfl⟩ d_PM_bits_75
    · have hB : mBn M x y = mP M (ixI y) := by unfold mBn; rw [if_pos ⟨bI_n0.mp c1, bI_n0.mp c2⟩]
      obtain ⟨vn, hvn, ey⟩ := (isN_t (by omega)).mp (bI_n0.mp c2)
      have hiy : ixI y = vn := by rw [ey]; exact nI_clamp (by omega)
      rw [hiy] at hB
      have hp8 := (hM.2.2.1 vn hvn).2
      refine lv_iload hx hb d_PM_bits_22 (lv_at hl 0 rfl) ?_
      refine lv_aload_n hx hb d_PM_bits_24 rfl (lv_at hl 2 rfl) ?_
      refine r_get C h fl_PM_7 0 rfl rfl d_PM_bits_25 ?_
      refine lv_iload_n hx hb d_PM_bits_28 rfl (lv_at hl 4 rfl) ?_
      refine r_iald C h 1 rfl (vn) (by omega) (ey) (by decide) (v := nI (mP M vn)) (rfl) d_PM_bits_29 ?_
      refine lv_icmp_ge (tgt := 73) hx hb d_PM_bits_30 (by decide) (fun c3 => ?_) (fun c3 => ?_)
      · have hi0 : i = mBn M x y := by rcases Nat.lt_or_ge i (mBn M x y) with z | z; exact absurd c3 (nI_ge (by omega) (by omega)); omega
        subst hi0
        refine lv_iload hx hb d_PM_bits_73 (lv_at hl 1 rfl) ?_
        exact r_iret C h hr ⟨rfl, T1, rfl⟩ d_PM_bits_75
      · have hlt : i < mBn M x y := by rcases Nat.lt_or_ge i (mBn M x y) with z | z; exact z; exact absurd (nI_le (by omega) (by omega)) c3
        obtain ⟨j, hj, ex⟩ := (isN_t (by omega)).mp (bI_n0.mp c1)
        have hix : ixI x = j := by rw [ex]; exact nI_clamp (by omega)
        have hnd := nd_lt w hj
        refine lv_aload_n hx hb d_PM_bits_33 rfl (lv_at hl 2 rfl) ?_
        refine lv_iload_n hx hb d_PM_bits_34 rfl (lv_at hl 4 rfl) ?_
        refine lv_iload hx hb d_PM_bits_35 (lv_at hl 0 rfl) ?_
        refine r_callv (As := [.int y, .int (nI i)]) (rest := []) C h cv_PM_65 (c_PM_go l D cA bd M T1 y (nI i) hM) 0 rfl rfl rfl rfl hl.1 rfl (Nat.le_of_ble_eq_true rfl) rfl rfl ⟨Nat.le_of_ble_eq_true rfl, Nat.le_of_ble_eq_true rfl⟩ ⟨Nat.le_of_ble_eq_true rfl, Nat.le_of_ble_eq_true rfl⟩ d_PM_bits_37 (fun u H locs hq h => ?_)
        obtain ⟨T2, hT2, rfl⟩ := hq
        have hTj : tS T2 (nd j w) = dcd (RM M y (nI i) (ixI x) w) := by rw [hix]; exact dcd_eq (hT2 j w hj)
        refine lv_aload_n hx hb d_PM_bits_40 rfl (lv_at hl 2 rfl) ?_
        refine r_get C h fl_PM_38 0 rfl rfl d_PM_bits_41 ?_
        refine lv_iconst (v := nI 2) hx hb d_PM_bits_44 (by decide) ?_
        refine lv_iload_n hx hb d_PM_bits_45 rfl (lv_at hl 3 rfl) ?_
        refine lv_imul hx hb d_PM_bits_46 ?_
        refine lv_iload_n hx hb d_PM_bits_47 rfl (lv_at hl 5 rfl) ?_
        refine lv_iadd hx hb d_PM_bits_48 ?_
        refine w_i (nI (nd j w)) (by rw [ex]; exact nd_eq j w) ?_
        refine r_zald C h 10 rfl (nd j w) (by omega) (rfl) (by decide) (v := bI (tS T2 (nd j w))) (rfl) d_PM_bits_49 ?_
        refine w_join 65 [] (fun v => v = orB (fun q => dcd (RM M y (nI q) (ixI x) w)) (i + 1)) (fun hj9 => ?_) (fun v hv => ?_)
        · refine lv_if_eq (tgt := 63) hx hb d_PM_bits_50 (by decide) (fun c4 => ?_) (fun c4 => ?_)
          · refine lv_iload hx hb d_PM_bits_63 (lv_at hl 1 rfl) ?_
            exact hj9 _ (by rw [orB, if_neg (by rw [← hTj, bI_0.mp c4]; decide), Int32.or_zero])
          · refine lv_iload hx hb d_PM_bits_53 (lv_at hl 1 rfl) ?_
            refine lv_iconst (v := 1) hx hb d_PM_bits_55 (by decide) ?_
            refine lv_iload hx hb d_PM_bits_56 (lv_at hl 0 rfl) ?_
            refine lv_ishl hx hb d_PM_bits_58 ?_
            refine lv_ior hx hb d_PM_bits_59 ?_
            refine lv_goto (tgt := 65) hx hb d_PM_bits_60 (by decide) ?_
            exact hj9 _ (by rw [orB, if_pos (by rw [← hTj, bI_n0.mp c4])])
        · subst hv
          refine lv_istore (lv' := [(4, .int (orB (fun q => dcd (RM M y (nI q) (ixI x) w)) (i + 1))), (5, .int (nI i)), (0, .ref (bd 0)), (1, .int x), (2, .int y), (3, .int (bI w))]) hx hb d_PM_bits_65 hl (by decide) rfl (fun ls hl => ?_)
          refine lv_iinc (v := nI (i + 1)) (lv' := [(5, .int (nI (i + 1))), (4, .int (orB (fun q => dcd (RM M y (nI q) (ixI x) w)) (i + 1))), (0, .ref (bd 0)), (1, .int x), (2, .int y), (3, .int (bI w))]) hx hb d_PM_bits_67 hl (k := 1) rfl (nI_iinc i) (by decide) rfl (fun ls hl => ?_)
          refine lv_goto (tgt := 6) hx hb d_PM_bits_70 (by decide) ?_
          exact ih (i + 1, T2) H locs ls ⟨hlt, h, hl⟩ (by show mBn M x y - (i + 1) < mBn M x y - i; omega)
set_option maxHeartbeats 4000000 in
set_option maxRecDepth 100000 in
theorem c_PM_without (l : Launch) (D : va_G) (cA : Nat → ClassId) (bd : Nat → Nat) (M : MS) (T : TS) (x y : Int32) (hM : MIn M) : CtI l y_PM_without b_PM_without 3 (some .int) ({ frames := 4, cells := 0, slots := 0, locals := 94 }) D cA [.ref (bd 0), .int x, .int y] (wPM cA bd M T) (fun r u => r = mBits M x y false ∧ ∃ T', u = wPM cA bd M T') := by
  refine CtI.of (by decide) (Nat.le_of_ble_eq_true rfl) ?_
  intro p e s m below meth c ls C hin hr h hl
  obtain ⟨hx, hb, hml, hown, hts, hK, hlk⟩ := id C
  have hNW := hK.2
  have hl : lv_has ls 3 [(0, .ref (bd 0)), (1, .int x), (2, .int y)] := hl
  refine lv_aload_n hx hb d_PM_without_0 rfl (lv_at hl 0 rfl) ?_
  refine lv_iload_n hx hb d_PM_without_1 rfl (lv_at hl 1 rfl) ?_
  refine lv_iload_n hx hb d_PM_without_2 rfl (lv_at hl 2 rfl) ?_
  refine lv_iconst (v := bI false) hx hb d_PM_without_3 (by decide) ?_
  refine r_calli (As := [.int x, .int y, .int (bI false)]) (rest := []) C h cv_PM_68 (c_PM_bits l D cA bd M T x y false hM) 0 rfl rfl rfl rfl hl.1 rfl (Nat.le_of_ble_eq_true rfl) rfl rfl ⟨Nat.le_of_ble_eq_true rfl, Nat.le_of_ble_eq_true rfl⟩ ⟨Nat.le_of_ble_eq_true rfl, Nat.le_of_ble_eq_true rfl⟩ d_PM_without_4 (fun r u H locs hq h => ?_)
  obtain ⟨rfl, T1, rfl⟩ := hq
  exact r_iret C h hr ⟨rfl, T1, rfl⟩ d_PM_without_7
set_option maxHeartbeats 4000000 in
set_option maxRecDepth 100000 in
theorem c_PM_having (l : Launch) (D : va_G) (cA : Nat → ClassId) (bd : Nat → Nat) (M : MS) (T : TS) (x y : Int32) (hM : MIn M) : CtI l y_PM_having b_PM_having 3 (some .int) ({ frames := 4, cells := 0, slots := 0, locals := 94 }) D cA [.ref (bd 0), .int x, .int y] (wPM cA bd M T) (fun r u => r = mBits M x y true ∧ ∃ T', u = wPM cA bd M T') := by
  refine CtI.of (by decide) (Nat.le_of_ble_eq_true rfl) ?_
  intro p e s m below meth c ls C hin hr h hl
  obtain ⟨hx, hb, hml, hown, hts, hK, hlk⟩ := id C
  have hNW := hK.2
  have hl : lv_has ls 3 [(0, .ref (bd 0)), (1, .int x), (2, .int y)] := hl
  refine lv_aload_n hx hb d_PM_having_0 rfl (lv_at hl 0 rfl) ?_
  refine lv_iload_n hx hb d_PM_having_1 rfl (lv_at hl 1 rfl) ?_
  refine lv_iload_n hx hb d_PM_having_2 rfl (lv_at hl 2 rfl) ?_
  refine lv_iconst (v := bI true) hx hb d_PM_having_3 (by decide) ?_
  refine r_calli (As := [.int x, .int y, .int (bI true)]) (rest := []) C h cv_PM_68 (c_PM_bits l D cA bd M T x y true hM) 0 rfl rfl rfl rfl hl.1 rfl (Nat.le_of_ble_eq_true rfl) rfl rfl ⟨Nat.le_of_ble_eq_true rfl, Nat.le_of_ble_eq_true rfl⟩ ⟨Nat.le_of_ble_eq_true rfl, Nat.le_of_ble_eq_true rfl⟩ d_PM_having_4 (fun r u H locs hq h => ?_)
  obtain ⟨rfl, T1, rfl⟩ := hq
  exact r_iret C h hr ⟨rfl, T1, rfl⟩ d_PM_having_7
set_option maxHeartbeats 4000000 in
set_option maxRecDepth 100000 in
theorem c_PM_fault (l : Launch) (D : va_G) (cA : Nat → ClassId) (bd : Nat → Nat) (M : MS) (T : TS) (x : Int32) (hM : MIn M) : CtI l y_PM_fault b_PM_fault 5 (some .int) ({ frames := 5, cells := 0, slots := 0, locals := 116 }) D cA [.ref (bd 0), .int x] (wPM cA bd M T) (fun r u => r = mFault M x ∧ ∃ T', u = wPM cA bd M T') := by
  refine CtI.of (by decide) (Nat.le_of_ble_eq_true rfl) ?_
  intro p e s m below meth c ls C hin hr h hl
  obtain ⟨hx, hb, hml, hown, hts, hK, hlk⟩ := id C
  have hNW := hK.2
  have hl : lv_has ls 5 [(0, .ref (bd 0)), (1, .int x)] := hl
  have hK9 := hM.2.1
  have hN := hM.1
  refine lv_aload_n hx hb d_PM_fault_0 rfl (lv_at hl 0 rfl) ?_
  refine lv_iload_n hx hb d_PM_fault_1 rfl (lv_at hl 1 rfl) ?_
  refine r_calli (As := [.int x]) (rest := []) C h cv_PM_55 (c_PM_isPoint l D cA bd M T x) 0 rfl rfl rfl rfl hl.1 rfl (Nat.le_of_ble_eq_true rfl) rfl rfl ⟨Nat.le_of_ble_eq_true rfl, Nat.le_of_ble_eq_true rfl⟩ ⟨Nat.le_of_ble_eq_true rfl, Nat.le_of_ble_eq_true rfl⟩ d_PM_fault_2 (fun r u H locs hq h => ?_)
  obtain ⟨rfl, rfl⟩ := hq
  refine lv_if_ne (tgt := 10) hx hb d_PM_fault_5 (by decide) (fun c1 => ?_) (fun c1 => ?_)
  · obtain ⟨q, hq, rfl⟩ := (isN_t (by omega)).mp (bI_n0.mp c1)
    have hq120 : q < 120 := by omega
    have hix : ixI (nI q) = q := nI_clamp (by omega)
    have hA : mFault M (nI q) = mFltP M q := by unfold mFault; rw [if_pos (isN_nI (by omega) hq), hix]
    rw [hA]
    obtain ⟨hd5, hG⟩ := hM.2.2.2 q hq
    have hq9 := hq
    refine lv_aload_n hx hb d_PM_fault_10 rfl (lv_at hl 0 rfl) ?_
    refine r_get C h fl_PM_20 0 rfl rfl d_PM_fault_11 ?_
    refine lv_iload_n hx hb d_PM_fault_14 rfl (lv_at hl 1 rfl) ?_
    refine r_iald C h 4 rfl (q) (hq120) (rfl) (by decide) (v := nI (mD M q)) (rfl) d_PM_fault_15 ?_
    refine lv_istore_n (lv' := [(2, .int (nI (mD M q))), (0, .ref (bd 0)), (1, .int (nI q))]) hx hb d_PM_fault_16 rfl hl (by decide) rfl (fun ls hl => ?_)
    refine lv_iload_n hx hb d_PM_fault_17 rfl (lv_at hl 0 rfl) ?_
    refine lv_iconst (v := 1) hx hb d_PM_fault_18 (by decide) ?_
    refine lv_icmp_lt (tgt := 35) hx hb d_PM_fault_19 (by decide) (fun c2 => ?_) (fun c2 => ?_)
    · refine lv_iconst (v := 0) hx hb d_PM_fault_35 (by decide) ?_
      exact r_iret C h hr ⟨by unfold mFltP; rw [if_pos (Or.inl (by have h91 : mD M q < 1 := (nI_ltI (by omega) (by decide)).mp (c2 : nI (mD M q) < nI 1); omega))], T, rfl⟩ d_PM_fault_36
    · have hd1 : 1 ≤ mD M q := by rcases Nat.eq_zero_or_pos (mD M q) with z | z; exact absurd (by rw [z]; decide) c2; exact z
      refine lv_iload_n hx hb d_PM_fault_22 rfl (lv_at hl 0 rfl) ?_
      refine lv_iconst (v := nI 3) hx hb d_PM_fault_23 (by decide) ?_
      refine lv_icmp_gt (tgt := 35) hx hb d_PM_fault_24 (by decide) (fun c3 => ?_) (fun c3 => ?_)
      · refine lv_iconst (v := 0) hx hb d_PM_fault_35 (by decide) ?_
        exact r_iret C h hr ⟨by unfold mFltP; rw [if_pos (Or.inr (Or.inl ((nI_ltI (by omega) (by omega)).mp c3)))], T, rfl⟩ d_PM_fault_36
      · have hd3 : ¬ 3 < mD M q := fun z => c3 (nI_lt z (by omega))
        refine lv_aload_n hx hb d_PM_fault_27 rfl (lv_at hl 1 rfl) ?_
        refine lv_iload_n hx hb d_PM_fault_28 rfl (lv_at hl 2 rfl) ?_
        refine r_calli (As := [.int (nI q)]) (rest := []) C h cv_PM_72 (c_PM_isReached l D cA bd M T (nI q) hM) 0 rfl rfl rfl rfl hl.1 rfl (Nat.le_of_ble_eq_true rfl) rfl rfl ⟨Nat.le_of_ble_eq_true rfl, Nat.le_of_ble_eq_true rfl⟩ ⟨Nat.le_of_ble_eq_true rfl, Nat.le_of_ble_eq_true rfl⟩ d_PM_fault_29 (fun r u H locs hq h => ?_)
        obtain ⟨rfl, T1, rfl⟩ := hq
        have hRe : mReach M (nI q) = dcd (RN (mK M) (mX M) (mY M) q) := by unfold mReach; rw [isN_nI (by omega) hq9, hix, Bool.true_and]
        rw [hRe]
        refine lv_if_ne (tgt := 37) hx hb d_PM_fault_32 (by decide) (fun c4 => ?_) (fun c4 => ?_)
        · have hs0 : ¬ (mD M q = 0 ∨ 3 < mD M q ∨ dcd (RN (mK M) (mX M) (mY M) q) = false) := fun z => z.elim (fun y => by omega) (fun y => y.elim hd3 (fun u => by rw [bI_n0.mp c4] at u; cases u))
          obtain ⟨-, vn, a, hvn, eF, eR, hm1, ham⟩ := hG.resolve_left (fun z => by omega)
          have hp8 := hM.2.2.1 vn hvn
          have hiv : ixI (mF M q) = vn := by rw [eF]; exact nI_clamp (by omega)
          refine lv_aload_n hx hb d_PM_fault_37 rfl (lv_at hl 1 rfl) ?_
          refine r_get C h fl_PM_23 0 rfl rfl d_PM_fault_38 ?_
          refine lv_iload_n hx hb d_PM_fault_41 rfl (lv_at hl 2 rfl) ?_
          refine r_iald C h 5 rfl (q) (hq120) (rfl) (by decide) (v := mF M q) (rfl) d_PM_fault_42 ?_
          refine lv_istore_n (lv' := [(3, .int (mF M q)), (2, .int (nI (mD M q))), (0, .ref (bd 0)), (1, .int (nI q))]) hx hb d_PM_fault_43 rfl hl (by decide) rfl (fun ls hl => ?_)
          refine lv_iload_n hx hb d_PM_fault_44 rfl (lv_at hl 1 rfl) ?_
          refine lv_iconst (v := 1) hx hb d_PM_fault_45 (by decide) ?_
          refine lv_icmp_eq (tgt := 86) hx hb d_PM_fault_46 (by decide) (fun c5 => ?_) (fun c5 => ?_)
          · have hd11 : mD M q = 1 := (nI_eq (by omega) (by decide)).mp (c5 : nI (mD M q) = nI 1)
            refine lv_aload_n hx hb d_PM_fault_86 rfl (lv_at hl 2 rfl) ?_
            refine r_get C h fl_PM_13 0 rfl rfl d_PM_fault_87 ?_
            refine lv_iload_n hx hb d_PM_fault_90 rfl (lv_at hl 0 rfl) ?_
            refine r_zald C h 2 rfl (vn) (by omega) (eF) (by decide) (v := bI (mO M vn)) (rfl) d_PM_fault_91 ?_
            refine lv_if_ne (tgt := 97) hx hb d_PM_fault_92 (by decide) (fun c6 => ?_) (fun c6 => ?_)
            · have hon : mO M (ixI (mF M q)) = true := by rw [hiv]; exact bI_n0.mp c6
              refine lv_aload_n hx hb d_PM_fault_97 rfl (lv_at hl 2 rfl) ?_
              refine r_get C h fl_PM_29 0 rfl rfl d_PM_fault_98 ?_
              refine lv_iload_n hx hb d_PM_fault_101 rfl (lv_at hl 3 rfl) ?_
              refine r_iald C h 7 rfl (q) (hq120) (rfl) (by decide) (v := nI (mM M q)) (rfl) d_PM_fault_102 ?_
              refine lv_aload_n hx hb d_PM_fault_103 rfl (lv_at hl 2 rfl) ?_
              refine r_get C h fl_PM_7 0 rfl rfl d_PM_fault_104 ?_
              refine lv_iload_n hx hb d_PM_fault_107 rfl (lv_at hl 0 rfl) ?_
              refine r_iald C h 1 rfl (vn) (by omega) (eF) (by decide) (v := nI (mP M vn)) (rfl) d_PM_fault_108 ?_
              refine lv_icmp_ge (tgt := 116) hx hb d_PM_fault_109 (by decide) (fun c7 => ?_) (fun c7 => ?_)
              · have hge : ¬ mM M q < mP M (ixI (mF M q)) := by rw [hiv]; exact fun z => nI_ge z (by omega) c7
                refine lv_aload_n hx hb d_PM_fault_116 rfl (lv_at hl 2 rfl) ?_
                refine lv_iload_n hx hb d_PM_fault_117 rfl (lv_at hl 3 rfl) ?_
                refine lv_iload_n hx hb d_PM_fault_118 rfl (lv_at hl 0 rfl) ?_
                refine r_calli (As := [.int (nI q), .int (mF M q)]) (rest := []) C h cv_PM_79 (c_PM_having l D cA bd M T1 (nI q) (mF M q) hM) 0 rfl rfl rfl rfl hl.1 rfl (Nat.le_of_ble_eq_true rfl) rfl rfl ⟨Nat.le_of_ble_eq_true rfl, Nat.le_of_ble_eq_true rfl⟩ ⟨Nat.le_of_ble_eq_true rfl, Nat.le_of_ble_eq_true rfl⟩ d_PM_fault_119 (fun r u H locs hq h => ?_)
                obtain ⟨rfl, T2, rfl⟩ := hq
                refine lv_if_eq (tgt := 129) hx hb d_PM_fault_122 (by decide) (fun c8 => ?_) (fun c8 => ?_)
                · refine lv_iconst (v := 0) hx hb d_PM_fault_129 (by decide) ?_
                  exact r_iret C h hr ⟨by unfold mFltP; rw [if_neg hs0, if_pos hd11, if_pos hon, if_neg hge, if_pos c8], T2, rfl⟩ d_PM_fault_130
                · refine lv_iconst (v := nI 2) hx hb d_PM_fault_125 (by decide) ?_
                  refine lv_goto (tgt := 130) hx hb d_PM_fault_126 (by decide) ?_
                  exact r_iret C h hr ⟨by unfold mFltP; rw [if_neg hs0, if_pos hd11, if_pos hon, if_neg hge, if_neg c8], T2, rfl⟩ d_PM_fault_130
              · have hlt : mM M q < mP M (ixI (mF M q)) := by rw [hiv]; rcases Nat.lt_or_ge (mM M q) (mP M vn) with z | z; exact z; exact absurd (nI_le z (by omega)) c7
                refine lv_iconst (v := nI 3) hx hb d_PM_fault_112 (by decide) ?_
                refine lv_goto (tgt := 130) hx hb d_PM_fault_113 (by decide) ?_
                exact r_iret C h hr ⟨by unfold mFltP; rw [if_neg hs0, if_pos hd11, if_pos hon, if_pos hlt], T1, rfl⟩ d_PM_fault_130
            · refine lv_iconst (v := 0) hx hb d_PM_fault_95 (by decide) ?_
              exact r_iret C h hr ⟨by unfold mFltP; rw [if_neg hs0, if_pos hd11, if_neg (by rw [hiv, bI_0.mp c6]; decide)], T1, rfl⟩ d_PM_fault_96
          · have hd11 : ¬ mD M q = 1 := fun z => c5 (by rw [z]; rfl)
            refine lv_iconst (v := 1) hx hb d_PM_fault_49 (by decide) ?_
            refine lv_aload_n hx hb d_PM_fault_50 rfl (lv_at hl 2 rfl) ?_
            refine r_get C h fl_PM_29 0 rfl rfl d_PM_fault_51 ?_
            refine lv_iload_n hx hb d_PM_fault_54 rfl (lv_at hl 3 rfl) ?_
            refine r_iald C h 7 rfl (q) (hq120) (rfl) (by decide) (v := nI (mM M q)) (rfl) d_PM_fault_55 ?_
            refine lv_ishl hx hb d_PM_fault_56 ?_
            refine lv_iconst (v := 1) hx hb d_PM_fault_57 (by decide) ?_
            refine lv_isub hx hb d_PM_fault_58 ?_
            refine lv_aload_n hx hb d_PM_fault_59 rfl (lv_at hl 2 rfl) ?_
            refine r_get C h fl_PM_26 0 rfl rfl d_PM_fault_60 ?_
            refine lv_iload_n hx hb d_PM_fault_63 rfl (lv_at hl 3 rfl) ?_
            refine r_iald C h 6 rfl (q) (hq120) (rfl) (by decide) (v := mR M q) (rfl) d_PM_fault_64 ?_
            refine lv_ishl hx hb d_PM_fault_65 ?_
            refine lv_istore (lv' := [(4, .int (((1 <<< ((nI (mM M q)) &&& 31)) - 1) <<< ((mR M q) &&& 31))), (3, .int (mF M q)), (2, .int (nI (mD M q))), (0, .ref (bd 0)), (1, .int (nI q))]) hx hb d_PM_fault_66 hl (by decide) rfl (fun ls hl => ?_)
            refine lv_aload_n hx hb d_PM_fault_68 rfl (lv_at hl 3 rfl) ?_
            refine lv_iload_n hx hb d_PM_fault_69 rfl (lv_at hl 4 rfl) ?_
            refine lv_iload_n hx hb d_PM_fault_70 rfl (lv_at hl 1 rfl) ?_
            refine r_calli (As := [.int (nI q), .int (mF M q)]) (rest := []) C h cv_PM_75 (c_PM_without l D cA bd M T1 (nI q) (mF M q) hM) 0 rfl rfl rfl rfl hl.1 rfl (Nat.le_of_ble_eq_true rfl) rfl rfl ⟨Nat.le_of_ble_eq_true rfl, Nat.le_of_ble_eq_true rfl⟩ ⟨Nat.le_of_ble_eq_true rfl, Nat.le_of_ble_eq_true rfl⟩ d_PM_fault_71 (fun r u H locs hq h => ?_)
            obtain ⟨rfl, T2, rfl⟩ := hq
            refine lv_iload hx hb d_PM_fault_74 (lv_at hl 0 rfl) ?_
            refine lv_iand hx hb d_PM_fault_76 ?_
            refine lv_if_eq (tgt := 84) hx hb d_PM_fault_77 (by decide) (fun c6 => ?_) (fun c6 => ?_)
            · refine lv_iconst (v := 0) hx hb d_PM_fault_84 (by decide) ?_
              exact r_iret C h hr ⟨by unfold mFltP; rw [if_neg hs0, if_neg hd11, if_pos c6], T2, rfl⟩ d_PM_fault_85
            · refine lv_iconst (v := 1) hx hb d_PM_fault_80 (by decide) ?_
              refine lv_goto (tgt := 85) hx hb d_PM_fault_81 (by decide) ?_
              exact r_iret C h hr ⟨by unfold mFltP; rw [if_neg hs0, if_neg hd11, if_neg c6], T2, rfl⟩ d_PM_fault_85
        · refine lv_iconst (v := 0) hx hb d_PM_fault_35 (by decide) ?_
          exact r_iret C h hr ⟨by unfold mFltP; rw [if_pos (Or.inr (Or.inr (bI_0.mp c4)))], T1, rfl⟩ d_PM_fault_36
  · refine lv_iconst (v := (-1)) hx hb d_PM_fault_8 (by decide) ?_
    exact r_iret C h hr ⟨by unfold mFault; rw [if_neg (by rw [bI_0.mp c1]; decide)], T, rfl⟩ d_PM_fault_9
theorem runI_fst {is : Nat → Bool} : ∀ m c f g, (runI is m c f).1 = (runI is m c g).1
  | 0, _, _, _ => rfl
  | m + 1, c, f, g => by rw [runI, runI]; exact runI_fst m _ _ _
def psum (f : Nat → Nat) : Nat → Nat
  | 0 => 0
  | n + 1 => psum f n + f n
noncomputable def isR (M : MS) (p : Nat) : Bool := dcd (RN (mK M) (mX M) (mY M) p)
noncomputable def isB (M : MS) (p : Nat) : Bool := decide (0 < mFltP M p)
noncomputable def mCount (M : MS) (x : Int32) : Int32 :=
  if x = 0 then nI (mK M) else if x = 1 then (runI (isR M) (mK M) 0 (-1)).1 else if x = nI 2 then (runI (isB M) (mK M) 0 (-1)).1 else if x = nI 3 then (runI (isB M) (mK M) 0 (-1)).2
  else if x = nI 4 then nI (mN M) else if x = nI 5 then nI (psum (mP M) (mN M)) else -1
set_option maxHeartbeats 4000000 in
set_option maxRecDepth 100000 in
theorem c_PM_count (l : Launch) (D : va_G) (cA : Nat → ClassId) (bd : Nat → Nat) (M : MS) (T : TS) (x : Int32) (hM : MIn M) : CtI l y_PM_count b_PM_count 8 (some .int) ({ frames := 6, cells := 0, slots := 0, locals := 140 }) D cA [.ref (bd 0), .int x] (wPM cA bd M T) (fun r u => r = mCount M x ∧ ∃ T', u = wPM cA bd M T') := by
  refine CtI.of (by decide) (Nat.le_of_ble_eq_true rfl) ?_
  intro p e s m below meth c ls C hin hr h hl
  obtain ⟨hx, hb, hml, hown, hts, hK, hlk⟩ := id C
  have hNW := hK.2
  have hl : lv_has ls 8 [(0, .ref (bd 0)), (1, .int x)] := hl
  have hK9 := hM.2.1
  have hN := hM.1
  refine lv_iconst (v := 0) hx hb d_PM_count_0 (by decide) ?_
  refine lv_istore_n (lv' := [(2, .int 0), (0, .ref (bd 0)), (1, .int x)]) hx hb d_PM_count_1 rfl hl (by decide) rfl (fun ls hl => ?_)
  refine lv_iconst (v := 0) hx hb d_PM_count_2 (by decide) ?_
  refine lv_istore_n (lv' := [(3, .int 0), (2, .int 0), (0, .ref (bd 0)), (1, .int x)]) hx hb d_PM_count_3 rfl hl (by decide) rfl (fun ls hl => ?_)
  refine lv_iconst (v := (-1)) hx hb d_PM_count_4 (by decide) ?_
  refine lv_istore (lv' := [(4, .int (-1)), (3, .int 0), (2, .int 0), (0, .ref (bd 0)), (1, .int x)]) hx hb d_PM_count_5 hl (by decide) rfl (fun ls hl => ?_)
  refine lv_iconst (v := nI (psum (mP M) 0)) hx hb d_PM_count_7 (nI_0.symm) ?_
  refine lv_istore (lv' := [(5, .int (nI (psum (mP M) 0))), (4, .int (-1)), (3, .int 0), (2, .int 0), (0, .ref (bd 0)), (1, .int x)]) hx hb d_PM_count_8 hl (by decide) rfl (fun ls hl => ?_)
  refine lv_aload_n hx hb d_PM_count_10 rfl (lv_at hl 4 rfl) ?_
  refine r_get C h fl_PM_48 0 rfl rfl d_PM_count_11 ?_
  refine lv_iconst (v := 1) hx hb d_PM_count_14 (by decide) ?_
  refine lv_isub hx hb d_PM_count_15 ?_
  refine lv_istore (lv' := [(6, .int ((nI (mK M)) - 1)), (5, .int (nI (psum (mP M) 0))), (4, .int (-1)), (3, .int 0), (2, .int 0), (0, .ref (bd 0)), (1, .int x)]) hx hb d_PM_count_16 hl (by decide) rfl (fun ls hl => ?_)
  refine w_loop (σ := Nat × Int32 × Int32 × Int32 × TS) 18 (fun z => z.1) (fun z H locs ls => z.1 ≤ mK M ∧ (runI (isR M) z.1 z.2.1 (-1)).1 = (runI (isR M) (mK M) 0 (-1)).1 ∧ (1 < x → runI (isB M) z.1 z.2.2.1 z.2.2.2.1 = runI (isB M) (mK M) 0 (-1)) ∧ Hp (va_A (wPM cA bd M T) s.heap.size) s D (wPM cA bd M z.2.2.2.2) H locs ∧ lv_has ls 8 [(6, .int (nI z.1 - 1)), (5, .int (nI (psum (mP M) 0))), (4, .int z.2.2.2.1), (3, .int z.2.2.1), (2, .int z.2.1), (0, .ref (bd 0)), (1, .int x)]) ?_ (mK M, 0, 0, -1, T) ⟨Nat.le_refl _, rfl, fun _ => rfl, h, hl⟩
  intro ⟨k, re, fa, fi, T1⟩ H locs ls ⟨hk, hR, hB, h, hl⟩ ih
  dsimp only at hk hR hB h hl ih
  refine w_joinH 103 [] (fun H locs => (k = 0 ∨ x ≤ 0 ∨ nI 4 ≤ x) ∧ Hp (va_A (wPM cA bd M T) s.heap.size) s D (wPM cA bd M T1) H locs) (fun hj => ?_) (fun H locs h => ?_)
  · refine lv_iload hx hb d_PM_count_18 (lv_at hl 0 rfl) ?_
    refine lv_if_lt (tgt := 103) hx hb d_PM_count_20 (by decide) (fun c1 => ?_) (fun c1 => ?_)
    · exact hj _ _ ⟨Or.inl ((nI_m1lt (by omega)).mp c1), h⟩
    · refine lv_iload_n hx hb d_PM_count_23 rfl (lv_at hl 6 rfl) ?_
      refine lv_if_le (tgt := 103) hx hb d_PM_count_24 (by decide) (fun c2 => ?_) (fun c2 => ?_)
      · exact hj _ _ ⟨Or.inr (Or.inl c2), h⟩
      · refine lv_iload_n hx hb d_PM_count_27 rfl (lv_at hl 6 rfl) ?_
        refine lv_iconst (v := nI 4) hx hb d_PM_count_28 (by decide) ?_
        refine lv_icmp_ge (tgt := 103) hx hb d_PM_count_29 (by decide) (fun c3 => ?_) (fun c3 => ?_)
        · exact hj _ _ ⟨Or.inr (Or.inr c3), h⟩
        · obtain ⟨j, rfl⟩ : ∃ j, k = j + 1 := ⟨k - 1, by have : k ≠ 0 := fun z => c1 ((nI_m1lt (by omega)).mpr z); omega⟩
          rw [nI_pred] at hl
          have hj1 : j < mK M := by omega
          have hix : ixI (nI j) = j := nI_clamp (by omega)
          refine lv_aload_n hx hb d_PM_count_32 rfl (lv_at hl 5 rfl) ?_
          refine lv_iload hx hb d_PM_count_33 (lv_at hl 0 rfl) ?_
          refine r_calli (As := [.int (nI j)]) (rest := []) C h cv_PM_72 (c_PM_isReached l D cA bd M T1 (nI j) hM) 0 rfl rfl rfl rfl hl.1 rfl (Nat.le_of_ble_eq_true rfl) rfl rfl ⟨Nat.le_of_ble_eq_true rfl, Nat.le_of_ble_eq_true rfl⟩ ⟨Nat.le_of_ble_eq_true rfl, Nat.le_of_ble_eq_true rfl⟩ d_PM_count_35 (fun r u H locs hq h => ?_)
          obtain ⟨rfl, T2, rfl⟩ := hq
          rw [show mReach M (nI j) = isR M j by unfold mReach isR; rw [isN_nI (by omega) hj1, hix, Bool.true_and]]
          refine w_join 48 [] (fun v => v = re + bI (isR M j)) (fun hj9 => ?_) (fun v hv => ?_)
          · refine lv_if_eq (tgt := 47) hx hb d_PM_count_38 (by decide) (fun c4 => ?_) (fun c4 => ?_)
            · refine lv_iload_n hx hb d_PM_count_47 rfl (lv_at hl 4 rfl) ?_
              exact hj9 _ (by rw [bI_0.mp c4]; exact (Int32.add_zero re).symm)
            · refine lv_iload_n hx hb d_PM_count_41 rfl (lv_at hl 4 rfl) ?_
              refine lv_iconst (v := 1) hx hb d_PM_count_42 (by decide) ?_
              refine lv_iadd hx hb d_PM_count_43 ?_
              refine lv_goto (tgt := 48) hx hb d_PM_count_44 (by decide) ?_
              exact hj9 _ (by rw [bI_n0.mp c4]; rfl)
          · subst hv
            refine lv_istore_n (lv' := [(2, .int (re + bI (isR M j))), (6, .int (nI j)), (5, .int (nI (psum (mP M) 0))), (4, .int fi), (3, .int fa), (0, .ref (bd 0)), (1, .int x)]) hx hb d_PM_count_48 rfl hl (by decide) rfl (fun ls hl => ?_)
            refine lv_iload_n hx hb d_PM_count_49 rfl (lv_at hl 6 rfl) ?_
            refine lv_iconst (v := 1) hx hb d_PM_count_50 (by decide) ?_
            refine w_joinHV 68 [] (fun v9 H locs => ∃ (b : Bool) (T3 : TS), v9 = bI b ∧ (1 < x → b = isB M j) ∧ Hp (va_A (wPM cA bd M T) s.heap.size) s D (wPM cA bd M T3) H locs) (fun hj9 => ?_) (fun v9 H locs hvh => ?_)
            · refine lv_icmp_le (tgt := 67) hx hb d_PM_count_51 (by decide) (fun c5 => ?_) (fun c5 => ?_)
              · refine lv_iconst (v := 0) hx hb d_PM_count_67 (by decide) ?_
                exact hj9 0 H locs ⟨false, T2, rfl, fun z => absurd z (Int32.not_lt.mpr c5), h⟩
              · refine lv_aload_n hx hb d_PM_count_54 rfl (lv_at hl 5 rfl) ?_
                refine lv_iload hx hb d_PM_count_55 (lv_at hl 1 rfl) ?_
                refine r_calli (As := [.int (nI j)]) (rest := []) C h cv_PM_82 (c_PM_fault l D cA bd M T2 (nI j) hM) 0 rfl rfl rfl rfl hl.1 rfl (Nat.le_of_ble_eq_true rfl) rfl rfl ⟨Nat.le_of_ble_eq_true rfl, Nat.le_of_ble_eq_true rfl⟩ ⟨Nat.le_of_ble_eq_true rfl, Nat.le_of_ble_eq_true rfl⟩ d_PM_count_57 (fun r u H locs hq h => ?_)
                obtain ⟨rfl, T3, rfl⟩ := hq
                rw [show mFault M (nI j) = mFltP M j by unfold mFault; rw [if_pos (isN_nI (by omega) hj1), hix]]
                refine lv_if_le (tgt := 67) hx hb d_PM_count_60 (by decide) (fun c6 => ?_) (fun c6 => ?_)
                · refine lv_iconst (v := 0) hx hb d_PM_count_67 (by decide) ?_
                  exact hj9 0 H locs ⟨false, T3, rfl, fun _ => by unfold isB; rw [decide_eq_false (Int32.not_lt.mpr c6)], h⟩
                · refine lv_iconst (v := 1) hx hb d_PM_count_63 (by decide) ?_
                  refine lv_goto (tgt := 68) hx hb d_PM_count_64 (by decide) ?_
                  exact hj9 1 H locs ⟨true, T3, rfl, fun _ => by unfold isB; rw [decide_eq_true (Int32.not_le.mp c6)], h⟩
            · obtain ⟨b, T3, rfl, hb9, h⟩ := hvh
              refine lv_istore (lv' := [(7, .int (bI b)), (2, .int (re + bI (isR M j))), (6, .int (nI j)), (5, .int (nI (psum (mP M) 0))), (4, .int fi), (3, .int fa), (0, .ref (bd 0)), (1, .int x)]) hx hb d_PM_count_68 hl (by decide) rfl (fun ls hl => ?_)
              refine lv_iload hx hb d_PM_count_70 (lv_at hl 0 rfl) ?_
              refine w_join 82 [] (fun v => v = fa + bI b) (fun hj9 => ?_) (fun v hv => ?_)
              · refine lv_if_eq (tgt := 81) hx hb d_PM_count_72 (by decide) (fun c7 => ?_) (fun c7 => ?_)
                · refine lv_iload_n hx hb d_PM_count_81 rfl (lv_at hl 5 rfl) ?_
                  exact hj9 _ (by rw [bI_0.mp c7]; exact (Int32.add_zero fa).symm)
                · refine lv_iload_n hx hb d_PM_count_75 rfl (lv_at hl 5 rfl) ?_
                  refine lv_iconst (v := 1) hx hb d_PM_count_76 (by decide) ?_
                  refine lv_iadd hx hb d_PM_count_77 ?_
                  refine lv_goto (tgt := 82) hx hb d_PM_count_78 (by decide) ?_
                  exact hj9 _ (by rw [bI_n0.mp c7]; rfl)
              · subst hv
                refine lv_istore_n (lv' := [(3, .int (fa + bI b)), (7, .int (bI b)), (2, .int (re + bI (isR M j))), (6, .int (nI j)), (5, .int (nI (psum (mP M) 0))), (4, .int fi), (0, .ref (bd 0)), (1, .int x)]) hx hb d_PM_count_82 rfl hl (by decide) rfl (fun ls hl => ?_)
                refine lv_iload hx hb d_PM_count_83 (lv_at hl 1 rfl) ?_
                refine w_join 95 [] (fun v => v = if b then nI j else fi) (fun hj9 => ?_) (fun v hv => ?_)
                · refine lv_if_eq (tgt := 93) hx hb d_PM_count_85 (by decide) (fun c8 => ?_) (fun c8 => ?_)
                  · refine lv_iload hx hb d_PM_count_93 (lv_at hl 5 rfl) ?_
                    exact hj9 _ (by rw [if_neg (by rw [bI_0.mp c8]; decide)])
                  · refine lv_iload hx hb d_PM_count_88 (lv_at hl 3 rfl) ?_
                    refine lv_goto (tgt := 95) hx hb d_PM_count_90 (by decide) ?_
                    exact hj9 _ (by rw [if_pos (bI_n0.mp c8)])
                · subst hv
                  refine lv_istore (lv' := [(4, .int (if b then nI j else fi)), (3, .int (fa + bI b)), (7, .int (bI b)), (2, .int (re + bI (isR M j))), (6, .int (nI j)), (5, .int (nI (psum (mP M) 0))), (0, .ref (bd 0)), (1, .int x)]) hx hb d_PM_count_95 hl (by decide) rfl (fun ls hl => ?_)
                  refine lv_iinc (v := nI j - 1) (lv' := [(6, .int (nI j - 1)), (4, .int (if b then nI j else fi)), (3, .int (fa + bI b)), (7, .int (bI b)), (2, .int (re + bI (isR M j))), (5, .int (nI (psum (mP M) 0))), (0, .ref (bd 0)), (1, .int x)]) hx hb d_PM_count_97 hl (k := 4) rfl (nI_m1s j) (by decide) rfl (fun ls hl => ?_)
                  refine lv_goto (tgt := 18) hx hb d_PM_count_100 (by decide) ?_
                  exact ih (j, re + bI (isR M j), fa + bI b, if b then nI j else fi, T3) H locs ls ⟨by omega, by rw [← hR, runI]; exact runI_fst _ _ _ _, fun z => by rw [← hB z, runI, hb9 z], h, lv_sub hl [0, 5, 1, 2, 4, 6, 7] rfl⟩ (by show j < j + 1; omega)
  · obtain ⟨hexit, h⟩ := h
    clear ih
    refine lv_iconst (v := nI 0) hx hb d_PM_count_103 (by decide) ?_
    refine lv_istore (lv' := [(6, .int (nI 0)), (5, .int (nI (psum (mP M) 0))), (4, .int fi), (3, .int fa), (2, .int re), (0, .ref (bd 0)), (1, .int x)]) hx hb d_PM_count_104 hl (by decide) rfl (fun ls hl => ?_)
    refine w_loop (σ := Nat) 106 (fun i => mN M - i) (fun i H locs ls => i ≤ mN M ∧ Hp (va_A (wPM cA bd M T) s.heap.size) s D (wPM cA bd M T1) H locs ∧ lv_has ls 8 [(6, .int (nI i)), (5, .int (nI (psum (mP M) i))), (4, .int fi), (3, .int fa), (2, .int re), (0, .ref (bd 0)), (1, .int x)]) ?_ 0 ⟨Nat.zero_le _, h, hl⟩
    intro i H locs ls ⟨hi, h, hl⟩ ih
    refine lv_iload hx hb d_PM_count_106 (lv_at hl 0 rfl) ?_
    refine lv_aload_n hx hb d_PM_count_108 rfl (lv_at hl 5 rfl) ?_
    refine r_get C h fl_PM_44 0 rfl rfl d_PM_count_109 ?_
    refine lv_icmp_ge (tgt := 133) hx hb d_PM_count_112 (by decide) (fun d1 => ?_) (fun d1 => ?_)
    · have hi9 : i = mN M := by rcases Nat.lt_or_ge i (mN M) with z | z; exact absurd d1 (nI_ge z (by omega)); omega
      subst hi9
      refine lv_iload_n hx hb d_PM_count_133 rfl (lv_at hl 6 rfl) ?_
      refine lv_if_ne (tgt := 144) hx hb d_PM_count_134 (by decide) (fun d2 => ?_) (fun d2 => ?_)
      · refine lv_iload_n hx hb d_PM_count_144 rfl (lv_at hl 6 rfl) ?_
        refine lv_iconst (v := 1) hx hb d_PM_count_145 (by decide) ?_
        refine lv_icmp_ne (tgt := 153) hx hb d_PM_count_146 (by decide) (fun d3 => ?_) (fun d3 => ?_)
        · refine lv_iload_n hx hb d_PM_count_153 rfl (lv_at hl 6 rfl) ?_
          refine lv_iconst (v := nI 2) hx hb d_PM_count_154 (by decide) ?_
          refine lv_icmp_ne (tgt := 162) hx hb d_PM_count_155 (by decide) (fun d4 => ?_) (fun d4 => ?_)
          · refine lv_iload_n hx hb d_PM_count_162 rfl (lv_at hl 6 rfl) ?_
            refine lv_iconst (v := nI 3) hx hb d_PM_count_163 (by decide) ?_
            refine lv_icmp_ne (tgt := 172) hx hb d_PM_count_164 (by decide) (fun d5 => ?_) (fun d5 => ?_)
            · refine lv_iload_n hx hb d_PM_count_172 rfl (lv_at hl 6 rfl) ?_
              refine lv_iconst (v := nI 4) hx hb d_PM_count_173 (by decide) ?_
              refine lv_icmp_ne (tgt := 184) hx hb d_PM_count_174 (by decide) (fun d6 => ?_) (fun d6 => ?_)
              · refine lv_iload_n hx hb d_PM_count_184 rfl (lv_at hl 6 rfl) ?_
                refine lv_iconst (v := nI 5) hx hb d_PM_count_185 (by decide) ?_
                refine lv_icmp_ne (tgt := 194) hx hb d_PM_count_186 (by decide) (fun d7 => ?_) (fun d7 => ?_)
                · refine lv_iconst (v := (-1)) hx hb d_PM_count_194 (by decide) ?_
                  exact r_iret C h hr ⟨by unfold mCount; rw [if_neg d2, if_neg d3, if_neg d4, if_neg d5, if_neg d6, if_neg d7], T1, rfl⟩ d_PM_count_195
                · refine lv_iload hx hb d_PM_count_189 (lv_at hl 1 rfl) ?_
                  refine lv_goto (tgt := 195) hx hb d_PM_count_191 (by decide) ?_
                  exact r_iret C h hr ⟨by unfold mCount; rw [if_neg d2, if_neg d3, if_neg d4, if_neg d5, if_neg d6, if_pos d7], T1, rfl⟩ d_PM_count_195
              · refine lv_aload_n hx hb d_PM_count_177 rfl (lv_at hl 5 rfl) ?_
                refine r_get C h fl_PM_44 0 rfl rfl d_PM_count_178 ?_
                refine lv_goto (tgt := 195) hx hb d_PM_count_181 (by decide) ?_
                exact r_iret C h hr ⟨by unfold mCount; rw [if_neg d2, if_neg d3, if_neg d4, if_neg d5, if_pos d6], T1, rfl⟩ d_PM_count_195
            · have hk0 : k = 0 := hexit.elim id (fun z => z.elim (fun y => absurd (d5 ▸ y) (by decide)) (fun y => absurd (d5 ▸ y) (by decide)))
              have hB := hB (by rw [d5]; decide)
              rw [hk0] at hB
              refine lv_iload hx hb d_PM_count_167 (lv_at hl 2 rfl) ?_
              refine lv_goto (tgt := 195) hx hb d_PM_count_169 (by decide) ?_
              exact r_iret C h hr ⟨by unfold mCount; rw [if_neg d2, if_neg d3, if_neg d4, if_pos d5, ← hB]; rw [runI], T1, rfl⟩ d_PM_count_195
          · have hk0 : k = 0 := hexit.elim id (fun z => z.elim (fun y => absurd (d4 ▸ y) (by decide)) (fun y => absurd (d4 ▸ y) (by decide)))
            have hB := hB (by rw [d4]; decide)
            rw [hk0] at hB
            refine lv_iload_n hx hb d_PM_count_158 rfl (lv_at hl 3 rfl) ?_
            refine lv_goto (tgt := 195) hx hb d_PM_count_159 (by decide) ?_
            exact r_iret C h hr ⟨by unfold mCount; rw [if_neg d2, if_neg d3, if_pos d4, ← hB]; rw [runI], T1, rfl⟩ d_PM_count_195
        · have hk0 : k = 0 := hexit.elim id (fun z => z.elim (fun y => absurd (d3 ▸ y) (by decide)) (fun y => absurd (d3 ▸ y) (by decide)))
          rw [hk0] at hR
          refine lv_iload_n hx hb d_PM_count_149 rfl (lv_at hl 4 rfl) ?_
          refine lv_goto (tgt := 195) hx hb d_PM_count_150 (by decide) ?_
          exact r_iret C h hr ⟨by unfold mCount; rw [if_neg d2, if_pos d3, ← hR]; rw [runI], T1, rfl⟩ d_PM_count_195
      · refine lv_aload_n hx hb d_PM_count_137 rfl (lv_at hl 5 rfl) ?_
        refine r_get C h fl_PM_48 0 rfl rfl d_PM_count_138 ?_
        refine lv_goto (tgt := 195) hx hb d_PM_count_141 (by decide) ?_
        exact r_iret C h hr ⟨by unfold mCount; rw [if_pos d2], T1, rfl⟩ d_PM_count_195
    · have hlt : i < mN M := by rcases Nat.lt_or_ge i (mN M) with z | z; exact z; exact absurd (nI_le z (by omega)) d1
      refine lv_iload hx hb d_PM_count_115 (lv_at hl 1 rfl) ?_
      refine lv_aload_n hx hb d_PM_count_117 rfl (lv_at hl 5 rfl) ?_
      refine r_get C h fl_PM_7 0 rfl rfl d_PM_count_118 ?_
      refine lv_iload hx hb d_PM_count_121 (lv_at hl 0 rfl) ?_
      refine r_iald C h 1 rfl (i) (by omega) (rfl) (by decide) (v := nI (mP M i)) (rfl) d_PM_count_123 ?_
      refine lv_iadd hx hb d_PM_count_124 ?_
      refine w_i (nI (psum (mP M) (i + 1))) (nI_add _ _) ?_
      refine lv_istore (lv' := [(5, .int (nI (psum (mP M) (i + 1)))), (6, .int (nI i)), (4, .int fi), (3, .int fa), (2, .int re), (0, .ref (bd 0)), (1, .int x)]) hx hb d_PM_count_125 hl (by decide) rfl (fun ls hl => ?_)
      refine lv_iinc (v := nI (i + 1)) (lv' := [(6, .int (nI (i + 1))), (5, .int (nI (psum (mP M) (i + 1)))), (4, .int fi), (3, .int fa), (2, .int re), (0, .ref (bd 0)), (1, .int x)]) hx hb d_PM_count_127 hl (k := 1) rfl (nI_iinc i) (by decide) rfl (fun ls hl => ?_)
      refine lv_goto (tgt := 106) hx hb d_PM_count_130 (by decide) ?_
      exact ih (i + 1) H locs ls ⟨hlt, h, hl⟩ (by omega)
end
section
/-! Rows for constructors: new objects, new arrays, Object.<init>, constructors' calls -/
section RC
variable {p : Program} {l : Launch} {e : Env} {R : Room} {s : State} {m : MethodId} {args : Array Value} {below : List Frame} {meth : Method} {c : Code} {H : Heap} {locs : List Loc} {cells slots : Nat} {Q : State → Prop}
variable {cc : ByteArray} {nL : Nat} {own : String} {D : va_G} {cA : Nat → ClassId} {A : Nat → Prop} {ws : va_W} {pc : Nat} {ls : Array Slot} {rest : List Value} {a : Nat}
theorem r_obj {idx : Nat} (C : Cx p s m args meth c cc nL own D cA) (hm : Cond.methodLink own idx Lib.objectInit ∈ BW) (hls : ls.size = nL) (hR : 1 ≤ R.frames ∧ (rest.map fun v => v.category).sum + 12 ≤ R.locals) (hd : decode cc pc = .ok (.invokespecial idx, 3))
    (kk : W p l e R s m args below meth c H locs cells slots Q (F0 m (pc + 3) ls rest)) : W p l e R s m args below meth c H locs cells slots Q (F0 m pc ls (.ref a :: rest)) :=
  W.objInit C.1 C.2.1 C.2.2.2.1 (C.2.2.2.2.1 _ hm) (C.2.2.2.2.1 _ wm_Obj_init) (C.2.2.2.2.1 _ wc_Obj_init) rfl (by rw [C.2.2.1]; exact hls) rfl hd hR.1 (by show 2 * 0 + _ + 12 ≤ _; omega) kk
theorem r_newa {atype : ArrayType} {ty : FieldType} (C : Cx p s m args meth c cc nL own D cA) (h : Hp A s D ws H locs) (hty : newarray.typeOf atype = ty) (hra : ∀ (U : State) (x y : ClassId), va_RA U x ty → va_RA U y ty → x = y) (t0 : Nat) (ht : (tysA cA)[t0]? = some (cA t0, ty)) (harr : Cond.arrayClass ty ∈ BW)
    {n : Int32} {N' : Nat} {a0 : vp_A} (ha : ∀ x : ClassId, vp_cell x a0 = arrV x N' (fun _ => defaultValue ty)) (hn : ¬ n < 0) (hN : n.toNatClampNeg = N') (hbytes : N' * componentBytes ty ≤ 536870912) (hcells : cells + 1 ≤ R.cells) (hslots : slots + N' ≤ R.slots) (hd : decode cc pc = .ok (.newarray atype, 2))
    (kk : ∀ (q : Nat) (H1 : Heap), Hp A s D (ws ++ [(q, .inl (cA t0, a0))]) H1 locs → W p l e R s m args below meth c H1 locs (cells + 1) (slots + N') Q (F0 m (pc + 2) ls (.ref q :: rest))) : W p l e R s m args below meth c H locs cells slots Q (F0 m pc ls (.int n :: rest)) := by
  refine va_newa C.1 C.2.1 (by rw [hty]; exact C.2.2.2.2.1 _ harr) hty C.2.2.2.2.2.1.1 h.1 h.2.1 h.2.2.1 h.2.2.2 ha hn hN hbytes hcells hslots hd (fun q x H1 k1 k2 k3 k4 => ?_)
  have e1 : x = cA t0 := hra s x (cA t0) (k1.2 5 (x, ty) rfl).2 (C.2.2.2.2.2.1.1.2 t0 _ ht).2
  subst e1
  exact kk q H1 ⟨k2, k3, k4, h.2.2.2⟩
theorem r_newq {idx : Nat} (C : Cx p s m args meth c cc nL own D cA) (h : Hp A s D ws H locs) (hcl : Cond.classLink own idx R_PP ∈ BW)
    {n : Int32} {N' : Nat} (hn : ¬ n < 0) (hN : n.toNatClampNeg = N') (hbytes : N' * 4 ≤ 536870912) (hcells : cells + 1 ≤ R.cells) (hslots : slots + N' ≤ R.slots) (hd : decode cc pc = .ok (.anewarray idx, 3))
    (kk : ∀ (q : Nat) (H1 : Heap), Hp A s D (ws ++ [(q, .inl (cA 4, N', .inr (.inr (.inr (.inr (fun _ => none))))))]) H1 locs → W p l e R s m args below meth c H1 locs (cells + 1) (slots + N') Q (F0 m (pc + 3) ls (.ref q :: rest))) : W p l e R s m args below meth c H locs cells slots Q (F0 m pc ls (.int n :: rest)) := by
  refine va_newq C.1 C.2.1 C.2.2.2.1 (C.2.2.2.2.1 _ hcl) C.2.2.2.2.2.1.2.2.2.2.2.2.2 C.2.2.2.2.2.1.1 h.1 h.2.1 h.2.2.1 h.2.2.2 hn hN hbytes hcells hslots hd (fun q x H1 k1 k2 k3 k4 => ?_)
  have e1 : x = cA 4 := by
    obtain ⟨_, _, -, -, -, f1⟩ := (k1.2 5 (x, .object R_PP) rfl).2
    obtain ⟨_, _, -, -, -, f2⟩ := (C.2.2.2.2.2.1.1.2 4 (cA 4, .object R_PP) rfl).2
    exact Option.some.inj (f1.symm.trans f2)
  subst e1
  exact kk q H1 ⟨k2, k3, k4, h.2.2.2⟩
theorem r_new {idx ci : Nat} {q0 : vw_C} {ty : Nat → FieldType} (C : Cx p s m args meth c cc nL own D cA) (h : Hp A s D ws H locs) (hin : ∀ w ∈ u_ws q0.1 q0.2.1 q0.2.2, w ∈ BW) (hty : ∀ k, k < q0.2.2 → parseFieldDescriptor (q0.2.1 k).2.2.1 = some (ty k)) (hc : classes[ci]? = some q0) (hcl : Cond.classLink own idx q0.1 ∈ BW) (hinst : Cond.instantiable q0.1 q0.2.2 ∈ BW) (hini : Cond.initialized q0.1 ∈ BW)
    {fs : List Value} (hfs : ∀ j, j < q0.2.2 → defaultValue (ty j) = vp_V fs j) (hcells : cells + 1 ≤ R.cells) (hslots : slots + q0.2.2 ≤ R.slots) (hd : decode cc pc = .ok (.new idx, 3))
    (kk : ∀ (q : Nat) (H1 : Heap), Hp A s D (ws ++ [(q, .inr (ci, fs))]) H1 locs → W p l e R s m args below meth c H1 locs (cells + 1) (slots + q0.2.2) Q (F0 m (pc + 3) ls (.ref q :: rest))) : W p l e R s m args below meth c H locs cells slots Q (F0 m pc ls rest) :=
  va_new (own := own) (C := q0.1) (T := q0.2.1) (N := q0.2.2) (ci := ci) C.1 C.2.1 C.2.2.2.2.1 hin ty hty C.2.2.2.1 (C.2.2.2.2.1 _ hcl) (C.2.2.2.2.1 _ hinst) (C.2.2.2.2.1 _ hini) C.2.2.2.2.2.1.1 h.1 h.2.1 h.2.2.1 h.2.2.2 hc hfs hcells hslots hd (fun q H1 k1 k2 k3 => kk q H1 ⟨k1, k2, k3, h.2.2.2⟩)
/-- a constructor of a nest mate -/
theorem r_ctorN {idx mL : Nat} {y : MethodName} {b : ByteArray} {rm : Room} {o : Nat} {post : va_W → Prop} (C : Cx p s m args meth c cc nL own D cA) (h : Hp A s D ws H locs) (hl9 : va_Nw (.methodLinkNest own idx y R_PF) s) (hcode : Cond.code y b mL none ∈ BW) (hini : Cond.initialized y.cls ∈ BW) (hinst : Cond.instanceMethod y ∈ BW) (hy1 : y.name = "<init>") (hd9 : y.cls ≠ "java/lang/invoke/MethodHandle" ∧ y.cls ≠ "java/lang/invoke/VarHandle" ∧ (parseMethodDescriptor y.desc).map (fun d => d.parameters.length) = some 0)
    (ct : CtV l y b mL none rm D cA [.ref o] ws post) (hls : ls.size = nL) (hroom : (rest.map fun v => v.category).sum ≤ 8) (hR : rm.frames + 1 ≤ R.frames ∧ 8 + (mL + 11) + rm.locals ≤ R.locals) (hcs : cells + rm.cells ≤ R.cells ∧ slots + rm.slots ≤ R.slots) (hd : decode cc pc = .ok (.invokespecial idx, 3))
    (kk : ∀ (u : va_W) (H1 : Heap) (locs1 : List Loc), post u → Hp A s D u H1 locs1 → W p l e R s m args below meth c H1 locs1 (cells + rm.cells) (slots + rm.slots) Q (F0 m (pc + 3) ls rest)) : W p l e R s m args below meth c H locs cells slots Q (F0 m pc ls (.ref o :: rest)) := by
  refine va_callv (va_runIN (As := []) (rest := rest) (host := R_PF) ⟨C.1, C.2.1, C.2.2.1, C.2.2.2.1, C.2.2.2.2.1⟩ (ct H.size) ⟨va_cnB 0 C.2.2.2.2.1 (good_BW hcode) rfl rfl rfl hl9 (C.2.2.2.2.1 _ hini) hd9 hR, hy1, C.2.2.2.2.1 _ hinst⟩ ⟨Pc0.blind, fun U hU hW => ⟨rfl, by rw [hU], by rw [hU]; exact h.1, Kx.warm hW C.2.2.2.2.2.1, h.2.1.weaken (fun _ _ _ _ => trivial)⟩⟩ rfl rfl hls rfl (lv_room hroom) hd hcs) h.2.2.1 (fun q _ h9 => h.free q h9) h.free (fun u t H1 locs1 ht hvm hw hB hz1 hk1 hS => ?_)
  exact kk u H1 locs1 hw ⟨ht ▸ hB.1, hB.2.weaken (fun _ q _ h9 => h.free q.1 h9), hS, h.2.2.2⟩
/-- a loop whose cells grow -/
theorem w_loopC {σ : Type} (pc2 : Nat) (μ cf sf : σ → Nat) (I : σ → Heap → List Loc → Array Slot → Prop)
    (hs : ∀ (x : σ) (H : Heap) (locs : List Loc) (ls : Array Slot), I x H locs ls → (∀ (x' : σ) (H' : Heap) (locs' : List Loc) (ls' : Array Slot), I x' H' locs' ls' → μ x' < μ x → W p l e R s m args below meth c H' locs' (cf x') (sf x') Q (F0 m pc2 ls' [])) → W p l e R s m args below meth c H locs (cf x) (sf x) Q (F0 m pc2 ls []))
    (x : σ) (hI : I x H locs ls) : W p l e R s m args below meth c H locs (cf x) (sf x) Q (F0 m pc2 ls []) := by
  have key : ∀ (n : Nat) (x : σ) (H : Heap) (locs : List Loc) (ls : Array Slot), μ x < n → I x H locs ls → W p l e R s m args below meth c H locs (cf x) (sf x) Q (F0 m pc2 ls []) := by
    intro n
    induction n with
    | zero => intro x H locs ls h; exact absurd h (Nat.not_lt_zero _)
    | succ n ih => intro x H locs ls h hI; exact hs x H locs ls hI (fun x' H' locs' ls' hI' hlt => ih x' H' locs' ls' (by omega) hI')
  exact key (μ x + 1) x H locs ls (Nat.lt_succ_self _) hI
theorem r_qast (C : Cx p s m args meth c cc nL own D cA) (h : Hp A s D ws H locs) (q0 qk : Nat) {n v : Nat} {vs : List Value} {f : Nat → Option Nat} (he : ws[q0]? = some (a, .inl (cA 4, n, .inr (.inr (.inr (.inr f)))))) (hv : ws[qk]? = some (v, .inr (2, vs))) {i : Int32} (j : Nat) (hj : j < n) (hi : i = nI j) (hn : n < 2 ^ 31) {ws' : va_W} (hw : ws.set q0 (a, .inl (cA 4, n, .inr (.inr (.inr (.inr (va_up f j (some v))))))) = ws') (hd : decode cc pc = .ok (.aastore, 1))
    (kk : ∀ (H1 : Heap) (locs1 : List Loc), Hp A s D ws' H1 locs1 → W p l e R s m args below meth c H1 locs1 cells slots Q (F0 m (pc + 1) ls rest)) : W p l e R s m args below meth c H locs cells slots Q (F0 m pc ls (.ref v :: .int i :: .ref a :: rest)) := by
  subst hi; subst hw
  refine va_astq (r := (R_PP, F_PP, 1)) C.1 C.2.1 C.2.2.2.2.2.1.1 h.1 h.2.1 h.2.2.1 q0 4 qk 2 he rfl hv rfl (vp_in_nI hj hn) hd (fun H1 locs1 a1 a2 a3 => ?_)
  rw [nI_clamp (Nat.lt_trans hj hn)] at a1 a2
  exact kk H1 locs1 ⟨a1, a2, a3, h.2.2.2⟩
end RC
theorem ra_int (U : State) (x y : ClassId) (h1 : va_RA U x .int) (h2 : va_RA U y .int) : x = y := Option.some.inj (Eq.trans (Eq.symm h1) h2)
theorem ra_bool (U : State) (x y : ClassId) (h1 : va_RA U x .boolean) (h2 : va_RA U y .boolean) : x = y := Option.some.inj (Eq.trans (Eq.symm h1) h2)
theorem ra_byte (U : State) (x y : ClassId) (h1 : va_RA U x .byte) (h2 : va_RA U y .byte) : x = y := Option.some.inj (Eq.trans (Eq.symm h1) h2)
theorem ra_long (U : State) (x y : ClassId) (h1 : va_RA U x .long) (h2 : va_RA U y .long) : x = y := Option.some.inj (Eq.trans (Eq.symm h1) h2)
theorem ha_int (N : Nat) (x : ClassId) : vp_cell x (N, .inl (fun _ => nI 0)) = arrV x N (fun _ => defaultValue .int) := by rw [nI_0]; rfl
theorem ha_int0 (N : Nat) (x : ClassId) : vp_cell x (N, .inl (fun _ => (0 : Int32))) = arrV x N (fun _ => defaultValue .int) := rfl
theorem ha_byte (N : Nat) (x : ClassId) : vp_cell x (N, .inl (fun _ => nI 0)) = arrV x N (fun _ => defaultValue .byte) := by rw [nI_0]; rfl
theorem ha_bool (N : Nat) (x : ClassId) : vp_cell x (N, .inl (fun _ => bI false)) = arrV x N (fun _ => defaultValue .boolean) := rfl
theorem wd_f : wd (fun _ => false) = fun _ => (0 : Int64) := by funext w; exact (wd_0 w).symm
theorem ha_long (N : Nat) (x : ClassId) : vp_cell x (N, .inr (.inl (wd (fun _ => false)))) = arrV x N (fun _ => defaultValue .long) := by rw [wd_f]; rfl
end
section
/-! The constructors of Parts, Variables, PartsFlowModel -/
theorem ap_get {ws zs : va_W} {i : Nat} {y : Nat × va_E} (h : ws[i]? = some y) : (ws ++ zs)[i]? = some y := by rw [List.getElem?_append_left (List.getElem?_eq_some_iff.mp h).1]; exact h
theorem ap_set {ws zs : va_W} {i : Nat} {y y0 : Nat × va_E} (h : ws[i]? = some y0) : (ws ++ zs).set i y = ws.set i y ++ zs := List.set_append_left _ _ (List.getElem?_eq_some_iff.mp h).1
theorem ap_last {ws : va_W} {n : Nat} {y : Nat × va_E} (h : ws.length = n) : (ws ++ [y])[n]? = some y := by subst h; exact List.getElem?_concat_length
abbrev F0b : Nat → Bool := fun _ => false
set_option maxHeartbeats 4000000 in
set_option maxRecDepth 100000 in
theorem c_PP_init (l : Launch) (D : va_G) (cA : Nat → ClassId) (ws : va_W) (i0 o : Nat) (e0 : ws[i0]? = some (o, .inr (2, [.null]))) : CtV l y_PP_init b_PP_init 1 none ({ frames := 1, cells := 1, slots := 3, locals := 12 }) D cA [.ref o] ws (fun u => ∃ lo, u = ws.set i0 (o, pO lo) ++ [(lo, pL cA F0b)]) := by
  refine CtV.of (by decide) (Nat.le_of_ble_eq_true rfl) ?_
  intro p e s m below meth c ls C hin hr h hl
  obtain ⟨hx, hb, hml, hown, hts, hK, hlk⟩ := id C
  have hNW := hK.2
  have hl : lv_has ls 1 [(0, .ref o)] := hl
  refine lv_aload_n hx hb d_PP_init_0 rfl (lv_at hl 0 rfl) ?_
  refine r_obj C ml_PP_1 hl.1 ⟨Nat.le_of_ble_eq_true rfl, Nat.le_of_ble_eq_true rfl⟩ d_PP_init_1 ?_
  refine lv_aload_n hx hb d_PP_init_4 rfl (lv_at hl 0 rfl) ?_
  refine lv_iconst (v := nI 3) hx hb d_PP_init_5 (by decide) ?_
  refine r_newa (ty := .long) (a0 := (3, .inr (.inl (wd F0b)))) C h rfl ra_long 3 rfl wa_long (N' := 3) (ha_long 3) (by decide) (by decide) (by decide) (Nat.le_of_ble_eq_true rfl) (Nat.le_of_ble_eq_true rfl) d_PP_init_6 (fun lo H h => ?_)
  refine r_putF C h fl_PP_9 i0 (ap_get e0) rfl hin rfl rfl rfl (Nat.le_of_ble_eq_true rfl) (ws' := ws.set i0 (o, pO lo) ++ [(lo, pL cA F0b)]) (ap_set e0) d_PP_init_8 (fun H locs h => ?_)
  exact r_vret C h hr ⟨lo, rfl⟩ d_PP_init_11
set_option maxHeartbeats 4000000 in
set_option maxRecDepth 100000 in
theorem c_PV_init (l : Launch) (D : va_G) (cA : Nat → ClassId) (ws : va_W) (i0 v : Nat) (e0 : ws[i0]? = some (v, .inr (1, [.null, .null, .null, .int (nI 0)]))) : CtV l y_PV_init b_PV_init 1 none ({ frames := 1, cells := 3, slots := 61, locals := 12 }) D cA [.ref v] ws (fun u => ∃ a1 a2 a3, u = ws.set i0 (v, .inr (1, [.ref a1, .ref a2, .ref a3, .int (nI 0)])) ++ [(a1, .inl (cA 0, 21, .inl (fun _ => nI 0))), (a2, .inl (cA 1, 20, .inl (fun _ => bI false))), (a3, .inl (cA 1, 20, .inl (fun _ => bI false)))]) := by
  refine CtV.of (by decide) (Nat.le_of_ble_eq_true rfl) ?_
  intro p e s m below meth c ls C hin hr h hl
  obtain ⟨hx, hb, hml, hown, hts, hK, hlk⟩ := id C
  have hNW := hK.2
  have hl : lv_has ls 1 [(0, .ref v)] := hl
  refine lv_aload_n hx hb d_PV_init_0 rfl (lv_at hl 0 rfl) ?_
  refine r_obj C ml_PV_1 hl.1 ⟨Nat.le_of_ble_eq_true rfl, Nat.le_of_ble_eq_true rfl⟩ d_PV_init_1 ?_
  refine lv_aload_n hx hb d_PV_init_4 rfl (lv_at hl 0 rfl) ?_
  refine lv_bipush (v := nI 21) hx hb d_PV_init_5 (by decide) ?_
  refine r_newa (ty := .int) (a0 := (21, .inl (fun _ => nI 0))) C h rfl ra_int 0 rfl wa_int (N' := 21) (ha_int 21) (by decide) (by decide) (by decide) (Nat.le_of_ble_eq_true rfl) (Nat.le_of_ble_eq_true rfl) d_PV_init_7 (fun a1 H h => ?_)
  refine r_putF C h fl_PV_9 i0 (ap_get e0) rfl hin rfl rfl rfl (Nat.le_of_ble_eq_true rfl) (ws' := ws.set i0 (v, .inr (1, [.ref a1, .null, .null, .int (nI 0)])) ++ [(a1, .inl (cA 0, 21, .inl (fun _ => nI 0)))]) (ap_set e0) d_PV_init_9 (fun H locs h => ?_)
  refine lv_aload_n hx hb d_PV_init_12 rfl (lv_at hl 0 rfl) ?_
  refine lv_bipush (v := nI 20) hx hb d_PV_init_13 (by decide) ?_
  refine r_newa (ty := .boolean) (a0 := (20, .inl (fun _ => bI false))) C h rfl ra_bool 1 rfl wa_boolean (N' := 20) (ha_bool 20) (by decide) (by decide) (by decide) (Nat.le_of_ble_eq_true rfl) (Nat.le_of_ble_eq_true rfl) d_PV_init_15 (fun a2 H h => ?_)
  rw [List.append_assoc] at h
  refine r_putF C h fl_PV_13 i0 (ap_get (gs_self e0)) rfl hin rfl rfl rfl (Nat.le_of_ble_eq_true rfl) (ws' := ws.set i0 (v, .inr (1, [.ref a1, .ref a2, .null, .int (nI 0)])) ++ [(a1, .inl (cA 0, 21, .inl (fun _ => nI 0))), (a2, .inl (cA 1, 20, .inl (fun _ => bI false)))]) (by rw [ap_set (gs_self e0), List.set_set]; rfl) d_PV_init_17 (fun H locs h => ?_)
  refine lv_aload_n hx hb d_PV_init_20 rfl (lv_at hl 0 rfl) ?_
  refine lv_bipush (v := nI 20) hx hb d_PV_init_21 (by decide) ?_
  refine r_newa (ty := .boolean) (a0 := (20, .inl (fun _ => bI false))) C h rfl ra_bool 1 rfl wa_boolean (N' := 20) (ha_bool 20) (by decide) (by decide) (by decide) (Nat.le_of_ble_eq_true rfl) (Nat.le_of_ble_eq_true rfl) d_PV_init_23 (fun a3 H h => ?_)
  rw [List.append_assoc] at h
  refine r_putF C h fl_PV_17 i0 (ap_get (gs_self e0)) rfl hin rfl rfl rfl (Nat.le_of_ble_eq_true rfl) (ws' := ws.set i0 (v, .inr (1, [.ref a1, .ref a2, .ref a3, .int (nI 0)])) ++ [(a1, .inl (cA 0, 21, .inl (fun _ => nI 0))), (a2, .inl (cA 1, 20, .inl (fun _ => bI false))), (a3, .inl (cA 1, 20, .inl (fun _ => bI false)))]) (by rw [ap_set (gs_self e0), List.set_set]; rfl) d_PV_init_25 (fun H locs h => ?_)
  exact r_vret C h hr ⟨a1, a2, a3, rfl⟩ d_PV_init_28
def M0 : MS := (0, fun _ => 0, F0b, F0b, 0, fun _ => 0, fun _ => 0, fun _ => 0, fun _ => 0, fun _ => 0, fun _ => 0)
def T0 : TS := (F0b, fun _ => 0, 0)
abbrev pm0 : va_E := .inr (3, [.int (nI 0), .null, .null, .null, .int (nI 0), .null, .null, .null, .null, .null, .null, .null, .null, .int (nI 0)])
set_option maxHeartbeats 4000000 in
set_option maxRecDepth 100000 in
theorem c_PM_init (l : Launch) (D : va_G) (cA : Nat → ClassId) (o : Nat) : CtV l y_PM_init b_PM_init 1 none ({ frames := 1, cells := 11, slots := 1260, locals := 12 }) D cA [.ref o] [(o, pm0)] (fun u => ∃ bd : Nat → Nat, bd 0 = o ∧ u = wPM cA bd M0 T0) := by
  refine CtV.of (by decide) (Nat.le_of_ble_eq_true rfl) ?_
  intro p e s m below meth c ls C hin hr h hl
  obtain ⟨hx, hb, hml, hown, hts, hK, hlk⟩ := id C
  have hNW := hK.2
  have hl : lv_has ls 1 [(0, .ref o)] := hl
  refine lv_aload_n hx hb d_PM_init_0 rfl (lv_at hl 0 rfl) ?_
  refine r_obj C ml_PM_1 hl.1 ⟨Nat.le_of_ble_eq_true rfl, Nat.le_of_ble_eq_true rfl⟩ d_PM_init_1 ?_
  refine lv_aload_n hx hb d_PM_init_4 rfl (lv_at hl 0 rfl) ?_
  refine lv_bipush (v := nI 20) hx hb d_PM_init_5 (by decide) ?_
  refine r_newa (ty := .int) (a0 := (20, .inl (fun _ => nI 0))) C h rfl ra_int 0 rfl wa_int (N' := 20) (ha_int 20) (by decide) (by decide) (by decide) (Nat.le_of_ble_eq_true rfl) (Nat.le_of_ble_eq_true rfl) d_PM_init_7 (fun b1 H h => ?_)
  refine r_putF C h fl_PM_7 0 rfl rfl hin rfl rfl rfl (Nat.le_of_ble_eq_true rfl) (ws' := [(o, .inr (3, [.int (nI 0), .ref b1, .null, .null, .int (nI 0), .null, .null, .null, .null, .null, .null, .null, .null, .int (nI 0)])), (b1, .inl (cA 0, 20, .inl (fun _ => nI 0)))]) rfl d_PM_init_9 (fun H locs h => ?_)
  refine lv_aload_n hx hb d_PM_init_12 rfl (lv_at hl 0 rfl) ?_
  refine lv_bipush (v := nI 20) hx hb d_PM_init_13 (by decide) ?_
  refine r_newa (ty := .boolean) (a0 := (20, .inl (fun _ => bI false))) C h rfl ra_bool 1 rfl wa_boolean (N' := 20) (ha_bool 20) (by decide) (by decide) (by decide) (Nat.le_of_ble_eq_true rfl) (Nat.le_of_ble_eq_true rfl) d_PM_init_15 (fun b2 H h => ?_)
  refine r_putF C h fl_PM_13 0 rfl rfl hin rfl rfl rfl (Nat.le_of_ble_eq_true rfl) (ws' := [(o, .inr (3, [.int (nI 0), .ref b1, .ref b2, .null, .int (nI 0), .null, .null, .null, .null, .null, .null, .null, .null, .int (nI 0)])), (b1, .inl (cA 0, 20, .inl (fun _ => nI 0))), (b2, .inl (cA 1, 20, .inl (fun _ => bI false)))]) rfl d_PM_init_17 (fun H locs h => ?_)
  refine lv_aload_n hx hb d_PM_init_20 rfl (lv_at hl 0 rfl) ?_
  refine lv_bipush (v := nI 20) hx hb d_PM_init_21 (by decide) ?_
  refine r_newa (ty := .boolean) (a0 := (20, .inl (fun _ => bI false))) C h rfl ra_bool 1 rfl wa_boolean (N' := 20) (ha_bool 20) (by decide) (by decide) (by decide) (Nat.le_of_ble_eq_true rfl) (Nat.le_of_ble_eq_true rfl) d_PM_init_23 (fun b3 H h => ?_)
  refine r_putF C h fl_PM_17 0 rfl rfl hin rfl rfl rfl (Nat.le_of_ble_eq_true rfl) (ws' := [(o, .inr (3, [.int (nI 0), .ref b1, .ref b2, .ref b3, .int (nI 0), .null, .null, .null, .null, .null, .null, .null, .null, .int (nI 0)])), (b1, .inl (cA 0, 20, .inl (fun _ => nI 0))), (b2, .inl (cA 1, 20, .inl (fun _ => bI false))), (b3, .inl (cA 1, 20, .inl (fun _ => bI false)))]) rfl d_PM_init_25 (fun H locs h => ?_)
  refine lv_aload_n hx hb d_PM_init_28 rfl (lv_at hl 0 rfl) ?_
  refine lv_bipush (v := nI 120) hx hb d_PM_init_29 (by decide) ?_
  refine r_newa (ty := .int) (a0 := (120, .inl (fun _ => nI 0))) C h rfl ra_int 0 rfl wa_int (N' := 120) (ha_int 120) (by decide) (by decide) (by decide) (Nat.le_of_ble_eq_true rfl) (Nat.le_of_ble_eq_true rfl) d_PM_init_31 (fun b4 H h => ?_)
  refine r_putF C h fl_PM_20 0 rfl rfl hin rfl rfl rfl (Nat.le_of_ble_eq_true rfl) (ws' := [(o, .inr (3, [.int (nI 0), .ref b1, .ref b2, .ref b3, .int (nI 0), .ref b4, .null, .null, .null, .null, .null, .null, .null, .int (nI 0)])), (b1, .inl (cA 0, 20, .inl (fun _ => nI 0))), (b2, .inl (cA 1, 20, .inl (fun _ => bI false))), (b3, .inl (cA 1, 20, .inl (fun _ => bI false))), (b4, .inl (cA 0, 120, .inl (fun _ => nI 0)))]) rfl d_PM_init_33 (fun H locs h => ?_)
  refine lv_aload_n hx hb d_PM_init_36 rfl (lv_at hl 0 rfl) ?_
  refine lv_bipush (v := nI 120) hx hb d_PM_init_37 (by decide) ?_
  refine r_newa (ty := .int) (a0 := (120, .inl (fun _ => (0 : Int32)))) C h rfl ra_int 0 rfl wa_int (N' := 120) (ha_int0 120) (by decide) (by decide) (by decide) (Nat.le_of_ble_eq_true rfl) (Nat.le_of_ble_eq_true rfl) d_PM_init_39 (fun b5 H h => ?_)
  refine r_putF C h fl_PM_23 0 rfl rfl hin rfl rfl rfl (Nat.le_of_ble_eq_true rfl) (ws' := [(o, .inr (3, [.int (nI 0), .ref b1, .ref b2, .ref b3, .int (nI 0), .ref b4, .ref b5, .null, .null, .null, .null, .null, .null, .int (nI 0)])), (b1, .inl (cA 0, 20, .inl (fun _ => nI 0))), (b2, .inl (cA 1, 20, .inl (fun _ => bI false))), (b3, .inl (cA 1, 20, .inl (fun _ => bI false))), (b4, .inl (cA 0, 120, .inl (fun _ => nI 0))), (b5, .inl (cA 0, 120, .inl (fun _ => (0 : Int32))))]) rfl d_PM_init_41 (fun H locs h => ?_)
  refine lv_aload_n hx hb d_PM_init_44 rfl (lv_at hl 0 rfl) ?_
  refine lv_bipush (v := nI 120) hx hb d_PM_init_45 (by decide) ?_
  refine r_newa (ty := .int) (a0 := (120, .inl (fun _ => (0 : Int32)))) C h rfl ra_int 0 rfl wa_int (N' := 120) (ha_int0 120) (by decide) (by decide) (by decide) (Nat.le_of_ble_eq_true rfl) (Nat.le_of_ble_eq_true rfl) d_PM_init_47 (fun b6 H h => ?_)
  refine r_putF C h fl_PM_26 0 rfl rfl hin rfl rfl rfl (Nat.le_of_ble_eq_true rfl) (ws' := [(o, .inr (3, [.int (nI 0), .ref b1, .ref b2, .ref b3, .int (nI 0), .ref b4, .ref b5, .ref b6, .null, .null, .null, .null, .null, .int (nI 0)])), (b1, .inl (cA 0, 20, .inl (fun _ => nI 0))), (b2, .inl (cA 1, 20, .inl (fun _ => bI false))), (b3, .inl (cA 1, 20, .inl (fun _ => bI false))), (b4, .inl (cA 0, 120, .inl (fun _ => nI 0))), (b5, .inl (cA 0, 120, .inl (fun _ => (0 : Int32)))), (b6, .inl (cA 0, 120, .inl (fun _ => (0 : Int32))))]) rfl d_PM_init_49 (fun H locs h => ?_)
  refine lv_aload_n hx hb d_PM_init_52 rfl (lv_at hl 0 rfl) ?_
  refine lv_bipush (v := nI 120) hx hb d_PM_init_53 (by decide) ?_
  refine r_newa (ty := .int) (a0 := (120, .inl (fun _ => nI 0))) C h rfl ra_int 0 rfl wa_int (N' := 120) (ha_int 120) (by decide) (by decide) (by decide) (Nat.le_of_ble_eq_true rfl) (Nat.le_of_ble_eq_true rfl) d_PM_init_55 (fun b7 H h => ?_)
  refine r_putF C h fl_PM_29 0 rfl rfl hin rfl rfl rfl (Nat.le_of_ble_eq_true rfl) (ws' := [(o, .inr (3, [.int (nI 0), .ref b1, .ref b2, .ref b3, .int (nI 0), .ref b4, .ref b5, .ref b6, .ref b7, .null, .null, .null, .null, .int (nI 0)])), (b1, .inl (cA 0, 20, .inl (fun _ => nI 0))), (b2, .inl (cA 1, 20, .inl (fun _ => bI false))), (b3, .inl (cA 1, 20, .inl (fun _ => bI false))), (b4, .inl (cA 0, 120, .inl (fun _ => nI 0))), (b5, .inl (cA 0, 120, .inl (fun _ => (0 : Int32)))), (b6, .inl (cA 0, 120, .inl (fun _ => (0 : Int32)))), (b7, .inl (cA 0, 120, .inl (fun _ => nI 0)))]) rfl d_PM_init_57 (fun H locs h => ?_)
  refine lv_aload_n hx hb d_PM_init_60 rfl (lv_at hl 0 rfl) ?_
  refine lv_bipush (v := nI 120) hx hb d_PM_init_61 (by decide) ?_
  refine r_newa (ty := .int) (a0 := (120, .inl (fun _ => (0 : Int32)))) C h rfl ra_int 0 rfl wa_int (N' := 120) (ha_int0 120) (by decide) (by decide) (by decide) (Nat.le_of_ble_eq_true rfl) (Nat.le_of_ble_eq_true rfl) d_PM_init_63 (fun b8 H h => ?_)
  refine r_putF C h fl_PM_32 0 rfl rfl hin rfl rfl rfl (Nat.le_of_ble_eq_true rfl) (ws' := [(o, .inr (3, [.int (nI 0), .ref b1, .ref b2, .ref b3, .int (nI 0), .ref b4, .ref b5, .ref b6, .ref b7, .ref b8, .null, .null, .null, .int (nI 0)])), (b1, .inl (cA 0, 20, .inl (fun _ => nI 0))), (b2, .inl (cA 1, 20, .inl (fun _ => bI false))), (b3, .inl (cA 1, 20, .inl (fun _ => bI false))), (b4, .inl (cA 0, 120, .inl (fun _ => nI 0))), (b5, .inl (cA 0, 120, .inl (fun _ => (0 : Int32)))), (b6, .inl (cA 0, 120, .inl (fun _ => (0 : Int32)))), (b7, .inl (cA 0, 120, .inl (fun _ => nI 0))), (b8, .inl (cA 0, 120, .inl (fun _ => (0 : Int32))))]) rfl d_PM_init_65 (fun H locs h => ?_)
  refine lv_aload_n hx hb d_PM_init_68 rfl (lv_at hl 0 rfl) ?_
  refine lv_bipush (v := nI 120) hx hb d_PM_init_69 (by decide) ?_
  refine r_newa (ty := .int) (a0 := (120, .inl (fun _ => (0 : Int32)))) C h rfl ra_int 0 rfl wa_int (N' := 120) (ha_int0 120) (by decide) (by decide) (by decide) (Nat.le_of_ble_eq_true rfl) (Nat.le_of_ble_eq_true rfl) d_PM_init_71 (fun b9 H h => ?_)
  refine r_putF C h fl_PM_35 0 rfl rfl hin rfl rfl rfl (Nat.le_of_ble_eq_true rfl) (ws' := [(o, .inr (3, [.int (nI 0), .ref b1, .ref b2, .ref b3, .int (nI 0), .ref b4, .ref b5, .ref b6, .ref b7, .ref b8, .ref b9, .null, .null, .int (nI 0)])), (b1, .inl (cA 0, 20, .inl (fun _ => nI 0))), (b2, .inl (cA 1, 20, .inl (fun _ => bI false))), (b3, .inl (cA 1, 20, .inl (fun _ => bI false))), (b4, .inl (cA 0, 120, .inl (fun _ => nI 0))), (b5, .inl (cA 0, 120, .inl (fun _ => (0 : Int32)))), (b6, .inl (cA 0, 120, .inl (fun _ => (0 : Int32)))), (b7, .inl (cA 0, 120, .inl (fun _ => nI 0))), (b8, .inl (cA 0, 120, .inl (fun _ => (0 : Int32)))), (b9, .inl (cA 0, 120, .inl (fun _ => (0 : Int32))))]) rfl d_PM_init_73 (fun H locs h => ?_)
  refine lv_aload_n hx hb d_PM_init_76 rfl (lv_at hl 0 rfl) ?_
  refine lv_sipush (v := nI 240) hx hb d_PM_init_77 (by decide) ?_
  refine r_newa (ty := .boolean) (a0 := (240, .inl (fun _ => bI false))) C h rfl ra_bool 1 rfl wa_boolean (N' := 240) (ha_bool 240) (by decide) (by decide) (by decide) (Nat.le_of_ble_eq_true rfl) (Nat.le_of_ble_eq_true rfl) d_PM_init_80 (fun b10 H h => ?_)
  refine r_putF C h fl_PM_38 0 rfl rfl hin rfl rfl rfl (Nat.le_of_ble_eq_true rfl) (ws' := [(o, .inr (3, [.int (nI 0), .ref b1, .ref b2, .ref b3, .int (nI 0), .ref b4, .ref b5, .ref b6, .ref b7, .ref b8, .ref b9, .ref b10, .null, .int (nI 0)])), (b1, .inl (cA 0, 20, .inl (fun _ => nI 0))), (b2, .inl (cA 1, 20, .inl (fun _ => bI false))), (b3, .inl (cA 1, 20, .inl (fun _ => bI false))), (b4, .inl (cA 0, 120, .inl (fun _ => nI 0))), (b5, .inl (cA 0, 120, .inl (fun _ => (0 : Int32)))), (b6, .inl (cA 0, 120, .inl (fun _ => (0 : Int32)))), (b7, .inl (cA 0, 120, .inl (fun _ => nI 0))), (b8, .inl (cA 0, 120, .inl (fun _ => (0 : Int32)))), (b9, .inl (cA 0, 120, .inl (fun _ => (0 : Int32)))), (b10, .inl (cA 1, 240, .inl (fun _ => bI false)))]) rfl d_PM_init_82 (fun H locs h => ?_)
  refine lv_aload_n hx hb d_PM_init_85 rfl (lv_at hl 0 rfl) ?_
  refine lv_sipush (v := nI 240) hx hb d_PM_init_86 (by decide) ?_
  refine r_newa (ty := .int) (a0 := (240, .inl (fun _ => nI 0))) C h rfl ra_int 0 rfl wa_int (N' := 240) (ha_int 240) (by decide) (by decide) (by decide) (Nat.le_of_ble_eq_true rfl) (Nat.le_of_ble_eq_true rfl) d_PM_init_89 (fun b11 H h => ?_)
  refine r_putF C h fl_PM_41 0 rfl rfl hin rfl rfl rfl (Nat.le_of_ble_eq_true rfl) (ws' := [(o, .inr (3, [.int (nI 0), .ref b1, .ref b2, .ref b3, .int (nI 0), .ref b4, .ref b5, .ref b6, .ref b7, .ref b8, .ref b9, .ref b10, .ref b11, .int (nI 0)])), (b1, .inl (cA 0, 20, .inl (fun _ => nI 0))), (b2, .inl (cA 1, 20, .inl (fun _ => bI false))), (b3, .inl (cA 1, 20, .inl (fun _ => bI false))), (b4, .inl (cA 0, 120, .inl (fun _ => nI 0))), (b5, .inl (cA 0, 120, .inl (fun _ => (0 : Int32)))), (b6, .inl (cA 0, 120, .inl (fun _ => (0 : Int32)))), (b7, .inl (cA 0, 120, .inl (fun _ => nI 0))), (b8, .inl (cA 0, 120, .inl (fun _ => (0 : Int32)))), (b9, .inl (cA 0, 120, .inl (fun _ => (0 : Int32)))), (b10, .inl (cA 1, 240, .inl (fun _ => bI false))), (b11, .inl (cA 0, 240, .inl (fun _ => nI 0)))]) rfl d_PM_init_91 (fun H locs h => ?_)
  refine r_vret C h hr ⟨fun k => [o, b1, b2, b3, b4, b5, b6, b7, b8, b9, b10, b11].getD k 0, rfl, rfl⟩ d_PM_init_94
end
section
/-! The constructor of PartsFlow -/
def pcI (cA : Nat → ClassId) (pad : Nat → Nat) (t : Nat) : Nat × va_E := (pad t, if t % 2 = 0 then pO (pad (t + 1)) else pL cA F0b)
def padI (pad : Nat → Nat) (i q1 l1 q2 l2 : Nat) : Nat → Nat := fun t => if t = 4 * i then q1 else if t = 4 * i + 1 then l1 else if t = 4 * i + 2 then q2 else if t = 4 * i + 3 then l2 else pad t
theorem pool_step (cA : Nat → ClassId) (pad : Nat → Nat) (i q1 l1 q2 l2 : Nat) : (List.range (4 * i)).map (pcI cA pad) ++ [(q1, pO l1), (l1, pL cA F0b), (q2, pO l2), (l2, pL cA F0b)] = (List.range (4 * (i + 1))).map (pcI cA (padI pad i q1 l1 q2 l2)) := by
  rw [show 4 * (i + 1) = 4 * i + 1 + 1 + 1 + 1 by omega, List.range_succ, List.range_succ, List.range_succ, List.range_succ]
  simp only [List.map_append, List.map_cons, List.map_nil, List.append_assoc, List.cons_append, List.nil_append]
  have e0 : padI pad i q1 l1 q2 l2 (4 * i) = q1 := by unfold padI; rw [if_pos rfl]
  have e1 : padI pad i q1 l1 q2 l2 (4 * i + 1) = l1 := by unfold padI; rw [if_neg (by omega), if_pos rfl]
  have e2 : padI pad i q1 l1 q2 l2 (4 * i + 1 + 1) = q2 := by unfold padI; rw [if_neg (by omega), if_neg (by omega), if_pos rfl]
  have e3 : padI pad i q1 l1 q2 l2 (4 * i + 1 + 1 + 1) = l2 := by unfold padI; rw [if_neg (by omega), if_neg (by omega), if_neg (by omega), if_pos rfl]
  have c0 : pcI cA (padI pad i q1 l1 q2 l2) (4 * i) = (q1, pO l1) := by unfold pcI; rw [if_pos (by omega), e0, e1]
  have c1 : pcI cA (padI pad i q1 l1 q2 l2) (4 * i + 1) = (l1, pL cA F0b) := by unfold pcI; rw [if_neg (by omega), e1]
  have c2 : pcI cA (padI pad i q1 l1 q2 l2) (4 * i + 1 + 1) = (q2, pO l2) := by unfold pcI; rw [if_pos (by omega), e2, e3]
  have c3 : pcI cA (padI pad i q1 l1 q2 l2) (4 * i + 1 + 1 + 1) = (l2, pL cA F0b) := by unfold pcI; rw [if_neg (by omega), e3]
  rw [c0, c1, c2, c3]
  congr 1
  apply List.map_congr_left
  intro t ht
  have ht : t < 4 * i := List.mem_range.mp ht
  have g : ∀ k, k < 4 * i → padI pad i q1 l1 q2 l2 k = pad k := by
    intro k hk; unfold padI; rw [if_neg (by omega), if_neg (by omega), if_neg (by omega), if_neg (by omega)]
  unfold pcI
  rw [g t ht]
  by_cases hp : t % 2 = 0
  · rw [if_pos hp, if_pos hp, g (t + 1) (by omega)]
  · rw [if_neg hp, if_neg hp]
def rfW (pad : Nat → Nat) (i : Nat) : Nat → Option Nat := fun j => if j < i then some (pad (4 * j)) else none
def rfH (pad : Nat → Nat) (i : Nat) : Nat → Option Nat := fun j => if j < i then some (pad (4 * j + 2)) else none
theorem rfW_s (pad : Nat → Nat) (i q1 l1 q2 l2 : Nat) : va_up (rfW pad i) i (some q1) = rfW (padI pad i q1 l1 q2 l2) (i + 1) := by
  funext j; unfold va_up rfW padI
  by_cases h : j = i
  · subst h; rw [if_pos rfl, if_pos (by omega), if_pos rfl]
  · rw [if_neg h]
    by_cases h2 : j < i
    · rw [if_pos h2, if_pos (by omega), if_neg (by omega), if_neg (by omega), if_neg (by omega), if_neg (by omega)]
    · rw [if_neg h2, if_neg (by omega)]
theorem rfH_s (pad : Nat → Nat) (i q1 l1 q2 l2 : Nat) : va_up (rfH pad i) i (some q2) = rfH (padI pad i q1 l1 q2 l2) (i + 1) := by
  funext j; unfold va_up rfH padI
  by_cases h : j = i
  · subst h; rw [if_pos rfl, if_pos (by omega), if_neg (by omega), if_neg (by omega), if_pos rfl]
  · rw [if_neg h]
    by_cases h2 : j < i
    · rw [if_pos h2, if_pos (by omega), if_neg (by omega), if_neg (by omega), if_neg (by omega), if_neg (by omega)]
    · rw [if_neg h2, if_neg (by omega)]
theorem arrV_ext {x : ClassId} {n : Nat} {f g : Nat → Value} (h : ∀ j, j < n → f j = g j) : arrV x n f = arrV x n g := by
  unfold arrV
  have e : (fun j : Fin n => f j.val) = fun j : Fin n => g j.val := funext (fun j => h j.val j.isLt)
  rw [e]
theorem Hp.qcong {A : Nat → Prop} {s : State} {D : va_G} {ws : va_W} {H : Heap} {locs : List Loc} {k a n : Nat} {x : ClassId} {f g : Nat → Option Nat} (h : Hp A s D ws H locs) (he : ws[k]? = some (a, .inl (x, n, .inr (.inr (.inr (.inr f)))))) (hg : ∀ j, j < n → f j = g j) : Hp A s D (ws.set k (a, .inl (x, n, .inr (.inr (.inr (.inr g)))))) H locs := by
  refine ⟨h.1.set h.2.1 he ?_ (fun _ _ => rfl), h.2.1.set he, h.2.2.1, h.2.2.2⟩
  have h1 : H[a]? = some (vp_cell x (n, .inr (.inr (.inr (.inr f))))) := h.1 k _ he
  show H[a]? = some (vp_cell x (n, .inr (.inr (.inr (.inr g)))))
  rw [h1, vp_cell_q, vp_cell_q, arrV_ext (fun j hj => by rw [hg j hj])]
abbrev pN : va_E := .inr (2, [.null])
def V0 : VS := (0, fun _ => 0, F0b, F0b)
def G0 : GS := (0, fun _ => 0, fun _ => 0, fun _ => 0, fun _ => 0, fun _ => 0, fun _ => 0)
def K0 : KS := (false, false, F0b, F0b, F0b, fun _ => F0b, fun _ => F0b)
abbrev pf0 : va_E := .inr (0, [.null, .null, .null, .null, .null, .null, .null, .int (nI 0), .null, .null, .null, .null, .null, .int (bI false), .int (bI false)])
def fixC (cA : Nat → ClassId) (ad : Nat → Nat) (fw fh : Nat → Option Nat) : va_W := [(ad 0, .inr (0, [.ref (ad 1), .ref (ad 5), .ref (ad 6), .ref (ad 7), .ref (ad 8), .ref (ad 9), .ref (ad 10), .int (nI 0), .ref (ad 12), .ref (ad 13), .ref (ad 11), .ref (ad 14), .ref (ad 16), .int (bI false), .int (bI false)])), (ad 1, .inr (1, [.ref (ad 2), .ref (ad 3), .ref (ad 4), .int (nI 0)])), (ad 2, .inl (cA 0, 21, .inl (fun _ => nI 0))), (ad 3, .inl (cA 1, 20, .inl (fun _ => bI false))), (ad 4, .inl (cA 1, 20, .inl (fun _ => bI false))), (ad 5, .inl (cA 2, 120, .inl (fun _ => nI 0))), (ad 6, .inl (cA 0, 120, .inl (fun _ => nI 0))), (ad 7, .inl (cA 0, 120, .inl (fun _ => nI 0))), (ad 8, .inl (cA 0, 120, .inl (fun _ => nI 0))), (ad 9, .inl (cA 0, 120, .inl (fun _ => (0 : Int32)))), (ad 10, .inl (cA 0, 120, .inl (fun _ => (0 : Int32)))), (ad 11, .inl (cA 1, 120, .inl (fun _ => bI false))), (ad 12, .inl (cA 4, 120, .inr (.inr (.inr (.inr fw))))), (ad 13, .inl (cA 4, 120, .inr (.inr (.inr (.inr fh))))), (ad 14, pO (ad 15)), (ad 15, pL cA F0b), (ad 16, pO (ad 17)), (ad 17, pL cA F0b)]
abbrev wI (cA : Nat → ClassId) (ad pad : Nat → Nat) (i : Nat) : va_W := fixC cA ad (rfW pad i) (rfH pad i) ++ (List.range (4 * i)).map (pcI cA pad)
theorem wI_len (cA : Nat → ClassId) (ad pad : Nat → Nat) (i : Nat) : (wI cA ad pad i).length = 18 + 4 * i := by
  rw [List.length_append, List.length_map, List.length_range]; rfl
theorem wI_end (cA : Nat → ClassId) (ad pad : Nat → Nat) {A : Nat → Prop} {s : State} {D : va_G} {H : Heap} {locs : List Loc} (h : Hp A s D (wI cA ad pad 120) H locs) : ∃ ad9 : Nat → Nat, ad9 0 = ad 0 ∧ Hp A s D (wPF cA ad9 V0 G0 K0) H locs := by
  have h1 := h.qcong (k := 12) (g := fun j => some (pad (4 * j))) rfl (fun j hj => by unfold rfW; rw [if_pos hj])
  have h2 := h1.qcong (k := 13) (g := fun j => some (pad (4 * j + 2))) rfl (fun j hj => by unfold rfH; rw [if_pos hj])
  refine ⟨fun k => if k < 18 then ad k else pad (k - 18), rfl, ?_⟩
  have e : wPF cA (fun k => if k < 18 then ad k else pad (k - 18)) V0 G0 K0 = fixC cA ad (fun j => some (pad (4 * j))) (fun j => some (pad (4 * j + 2))) ++ (List.range 480).map (pcI cA pad) := by
    have e1 : ∀ k, (fun k => if k < 18 then ad k else pad (k - 18)) (18 + k) = pad k := by
      intro k; show (if 18 + k < 18 then ad (18 + k) else pad (18 + k - 18)) = pad k
      rw [if_neg (by omega), Nat.add_sub_cancel_left]
    have e2 : ∀ k, (fun k => if k < 18 then ad k else pad (k - 18)) (19 + k) = pad (k + 1) := by
      intro k; rw [show 19 + k = 18 + (k + 1) by omega]; exact e1 _
    have e3 : ∀ k, (fun k => if k < 18 then ad k else pad (k - 18)) (20 + k) = pad (k + 2) := by
      intro k; rw [show 20 + k = 18 + (k + 2) by omega]; exact e1 _
    have em : (List.range 480).map (pcell cA (fun k => if k < 18 then ad k else pad (k - 18)) (fun _ => F0b) (fun _ => F0b)) = (List.range 480).map (pcI cA pad) := by
      apply List.map_congr_left
      intro t _
      unfold pcell pcI
      rw [e1, e2]
      by_cases h0 : t % 4 = 0
      · rw [if_pos h0, if_pos (by omega)]
      · rw [if_neg h0]
        by_cases h1 : t % 4 = 1
        · rw [if_pos h1, if_neg (by omega)]
        · rw [if_neg h1]
          by_cases h2 : t % 4 = 2
          · rw [if_pos h2, if_pos (by omega)]
          · rw [if_neg h2, if_neg (by omega)]
    have ef : wPF cA (fun k => if k < 18 then ad k else pad (k - 18)) V0 G0 K0 = fixC cA ad (fun j => some ((fun k => if k < 18 then ad k else pad (k - 18)) (18 + 4 * j))) (fun j => some ((fun k => if k < 18 then ad k else pad (k - 18)) (20 + 4 * j))) ++ (List.range 480).map (pcell cA (fun k => if k < 18 then ad k else pad (k - 18)) (fun _ => F0b) (fun _ => F0b)) := rfl
    rw [ef, em]
    congr 2
    · funext j; rw [e1]
    · funext j; rw [e3]
  rw [e]
  exact h2
set_option maxHeartbeats 4000000 in
set_option maxRecDepth 100000 in
theorem c_PF_init (l : Launch) (D : va_G) (cA : Nat → ClassId) (o : Nat) : CtV l y_PF_init b_PF_init 2 none ({ frames := 2, cells := 497, slots := 2113, locals := 32 }) D cA [.ref o] [(o, pf0)] (fun u => ∃ ad : Nat → Nat, ad 0 = o ∧ u = wPF cA ad V0 G0 K0) := by
  refine CtV.of (by decide) (Nat.le_of_ble_eq_true rfl) ?_
  intro p e s m below meth c ls C hin hr h hl
  obtain ⟨hx, hb, hml, hown, hts, hK, hlk⟩ := id C
  have hNW := hK.2
  have hl : lv_has ls 2 [(0, .ref o)] := hl
  refine lv_aload_n hx hb d_PF_init_0 rfl (lv_at hl 0 rfl) ?_
  refine r_obj C ml_PF_1 hl.1 ⟨Nat.le_of_ble_eq_true rfl, Nat.le_of_ble_eq_true rfl⟩ d_PF_init_1 ?_
  refine lv_aload_n hx hb d_PF_init_4 rfl (lv_at hl 0 rfl) ?_
  refine r_new (q0 := (R_PV, F_PV, 4)) (ty := t_PV) (ci := 1) (fs := [.null, .null, .null, .int (nI 0)]) C h in_PV t_PV_ok rfl wl_PF_7 wt_PV wi_PV (fun j hj => by rcases (show j = 0 ∨ j = 1 ∨ j = 2 ∨ j = 3 by have : j < 4 := hj; omega) with rfl | rfl | rfl | rfl <;> rfl) (Nat.le_of_ble_eq_true rfl) (Nat.le_of_ble_eq_true rfl) d_PF_init_5 (fun v H h => ?_)
  have h : Hp (va_A [(o, pf0)] s.heap.size) s D [(o, .inr (0, [.null, .null, .null, .null, .null, .null, .null, .int (nI 0), .null, .null, .null, .null, .null, .int (bI false), .int (bI false)])), (v, .inr (1, [.null, .null, .null, .int (nI 0)]))] H [] := h
  refine lv_dup hx hb d_PF_init_8 rfl ?_
  refine r_ctorN (o := v) (rest := [.ref v, .ref o]) C h hNW.2.2.2.2.1 wc_PV_init wi_PV wm_PV_init rfl (by decide +kernel) (c_PV_init l D cA [(o, .inr (0, [.null, .null, .null, .null, .null, .null, .null, .int (nI 0), .null, .null, .null, .null, .null, .int (bI false), .int (bI false)])), (v, .inr (1, [.null, .null, .null, .int (nI 0)]))] 1 v rfl) hl.1 (Nat.le_of_ble_eq_true rfl) ⟨Nat.le_of_ble_eq_true rfl, Nat.le_of_ble_eq_true rfl⟩ ⟨Nat.le_of_ble_eq_true rfl, Nat.le_of_ble_eq_true rfl⟩ d_PF_init_9 (fun u H locs hq h => ?_)
  obtain ⟨a1, a2, a3, rfl⟩ := hq
  have h : Hp (va_A [(o, pf0)] s.heap.size) s D [(o, .inr (0, [.null, .null, .null, .null, .null, .null, .null, .int (nI 0), .null, .null, .null, .null, .null, .int (bI false), .int (bI false)])), (v, .inr (1, [.ref a1, .ref a2, .ref a3, .int (nI 0)])), (a1, .inl (cA 0, 21, .inl (fun _ => nI 0))), (a2, .inl (cA 1, 20, .inl (fun _ => bI false))), (a3, .inl (cA 1, 20, .inl (fun _ => bI false)))] H locs := h
  refine r_putF C h fl_PF_10 0 rfl rfl hin rfl rfl rfl (Nat.le_of_ble_eq_true rfl) (ws' := [(o, .inr (0, [.ref v, .null, .null, .null, .null, .null, .null, .int (nI 0), .null, .null, .null, .null, .null, .int (bI false), .int (bI false)])), (v, .inr (1, [.ref a1, .ref a2, .ref a3, .int (nI 0)])), (a1, .inl (cA 0, 21, .inl (fun _ => nI 0))), (a2, .inl (cA 1, 20, .inl (fun _ => bI false))), (a3, .inl (cA 1, 20, .inl (fun _ => bI false)))]) rfl d_PF_init_12 (fun H locs h => ?_)
  refine lv_aload_n hx hb d_PF_init_15 rfl (lv_at hl 0 rfl) ?_
  refine lv_bipush (v := nI 120) hx hb d_PF_init_16 (by decide) ?_
  refine r_newa (ty := .byte) (a0 := (120, .inl (fun _ => nI 0))) C h rfl ra_byte 2 rfl wa_byte (N' := 120) (ha_byte 120) (by decide) (by decide) (by decide) (Nat.le_of_ble_eq_true rfl) (Nat.le_of_ble_eq_true rfl) d_PF_init_18 (fun a5 H h => ?_)
  refine r_putF C h fl_PF_16 0 rfl rfl hin rfl rfl rfl (Nat.le_of_ble_eq_true rfl) (ws' := [(o, .inr (0, [.ref v, .ref a5, .null, .null, .null, .null, .null, .int (nI 0), .null, .null, .null, .null, .null, .int (bI false), .int (bI false)])), (v, .inr (1, [.ref a1, .ref a2, .ref a3, .int (nI 0)])), (a1, .inl (cA 0, 21, .inl (fun _ => nI 0))), (a2, .inl (cA 1, 20, .inl (fun _ => bI false))), (a3, .inl (cA 1, 20, .inl (fun _ => bI false))), (a5, .inl (cA 2, 120, .inl (fun _ => nI 0)))]) rfl d_PF_init_20 (fun H locs h => ?_)
  refine lv_aload_n hx hb d_PF_init_23 rfl (lv_at hl 0 rfl) ?_
  refine lv_bipush (v := nI 120) hx hb d_PF_init_24 (by decide) ?_
  refine r_newa (ty := .int) (a0 := (120, .inl (fun _ => nI 0))) C h rfl ra_int 0 rfl wa_int (N' := 120) (ha_int 120) (by decide) (by decide) (by decide) (Nat.le_of_ble_eq_true rfl) (Nat.le_of_ble_eq_true rfl) d_PF_init_26 (fun a6 H h => ?_)
  refine r_putF C h fl_PF_20 0 rfl rfl hin rfl rfl rfl (Nat.le_of_ble_eq_true rfl) (ws' := [(o, .inr (0, [.ref v, .ref a5, .ref a6, .null, .null, .null, .null, .int (nI 0), .null, .null, .null, .null, .null, .int (bI false), .int (bI false)])), (v, .inr (1, [.ref a1, .ref a2, .ref a3, .int (nI 0)])), (a1, .inl (cA 0, 21, .inl (fun _ => nI 0))), (a2, .inl (cA 1, 20, .inl (fun _ => bI false))), (a3, .inl (cA 1, 20, .inl (fun _ => bI false))), (a5, .inl (cA 2, 120, .inl (fun _ => nI 0))), (a6, .inl (cA 0, 120, .inl (fun _ => nI 0)))]) rfl d_PF_init_28 (fun H locs h => ?_)
  refine lv_aload_n hx hb d_PF_init_31 rfl (lv_at hl 0 rfl) ?_
  refine lv_bipush (v := nI 120) hx hb d_PF_init_32 (by decide) ?_
  refine r_newa (ty := .int) (a0 := (120, .inl (fun _ => nI 0))) C h rfl ra_int 0 rfl wa_int (N' := 120) (ha_int 120) (by decide) (by decide) (by decide) (Nat.le_of_ble_eq_true rfl) (Nat.le_of_ble_eq_true rfl) d_PF_init_34 (fun a7 H h => ?_)
  refine r_putF C h fl_PF_24 0 rfl rfl hin rfl rfl rfl (Nat.le_of_ble_eq_true rfl) (ws' := [(o, .inr (0, [.ref v, .ref a5, .ref a6, .ref a7, .null, .null, .null, .int (nI 0), .null, .null, .null, .null, .null, .int (bI false), .int (bI false)])), (v, .inr (1, [.ref a1, .ref a2, .ref a3, .int (nI 0)])), (a1, .inl (cA 0, 21, .inl (fun _ => nI 0))), (a2, .inl (cA 1, 20, .inl (fun _ => bI false))), (a3, .inl (cA 1, 20, .inl (fun _ => bI false))), (a5, .inl (cA 2, 120, .inl (fun _ => nI 0))), (a6, .inl (cA 0, 120, .inl (fun _ => nI 0))), (a7, .inl (cA 0, 120, .inl (fun _ => nI 0)))]) rfl d_PF_init_36 (fun H locs h => ?_)
  refine lv_aload_n hx hb d_PF_init_39 rfl (lv_at hl 0 rfl) ?_
  refine lv_bipush (v := nI 120) hx hb d_PF_init_40 (by decide) ?_
  refine r_newa (ty := .int) (a0 := (120, .inl (fun _ => nI 0))) C h rfl ra_int 0 rfl wa_int (N' := 120) (ha_int 120) (by decide) (by decide) (by decide) (Nat.le_of_ble_eq_true rfl) (Nat.le_of_ble_eq_true rfl) d_PF_init_42 (fun a8 H h => ?_)
  refine r_putF C h fl_PF_27 0 rfl rfl hin rfl rfl rfl (Nat.le_of_ble_eq_true rfl) (ws' := [(o, .inr (0, [.ref v, .ref a5, .ref a6, .ref a7, .ref a8, .null, .null, .int (nI 0), .null, .null, .null, .null, .null, .int (bI false), .int (bI false)])), (v, .inr (1, [.ref a1, .ref a2, .ref a3, .int (nI 0)])), (a1, .inl (cA 0, 21, .inl (fun _ => nI 0))), (a2, .inl (cA 1, 20, .inl (fun _ => bI false))), (a3, .inl (cA 1, 20, .inl (fun _ => bI false))), (a5, .inl (cA 2, 120, .inl (fun _ => nI 0))), (a6, .inl (cA 0, 120, .inl (fun _ => nI 0))), (a7, .inl (cA 0, 120, .inl (fun _ => nI 0))), (a8, .inl (cA 0, 120, .inl (fun _ => nI 0)))]) rfl d_PF_init_44 (fun H locs h => ?_)
  refine lv_aload_n hx hb d_PF_init_47 rfl (lv_at hl 0 rfl) ?_
  refine lv_bipush (v := nI 120) hx hb d_PF_init_48 (by decide) ?_
  refine r_newa (ty := .int) (a0 := (120, .inl (fun _ => (0 : Int32)))) C h rfl ra_int 0 rfl wa_int (N' := 120) (ha_int0 120) (by decide) (by decide) (by decide) (Nat.le_of_ble_eq_true rfl) (Nat.le_of_ble_eq_true rfl) d_PF_init_50 (fun a9 H h => ?_)
  refine r_putF C h fl_PF_30 0 rfl rfl hin rfl rfl rfl (Nat.le_of_ble_eq_true rfl) (ws' := [(o, .inr (0, [.ref v, .ref a5, .ref a6, .ref a7, .ref a8, .ref a9, .null, .int (nI 0), .null, .null, .null, .null, .null, .int (bI false), .int (bI false)])), (v, .inr (1, [.ref a1, .ref a2, .ref a3, .int (nI 0)])), (a1, .inl (cA 0, 21, .inl (fun _ => nI 0))), (a2, .inl (cA 1, 20, .inl (fun _ => bI false))), (a3, .inl (cA 1, 20, .inl (fun _ => bI false))), (a5, .inl (cA 2, 120, .inl (fun _ => nI 0))), (a6, .inl (cA 0, 120, .inl (fun _ => nI 0))), (a7, .inl (cA 0, 120, .inl (fun _ => nI 0))), (a8, .inl (cA 0, 120, .inl (fun _ => nI 0))), (a9, .inl (cA 0, 120, .inl (fun _ => (0 : Int32))))]) rfl d_PF_init_52 (fun H locs h => ?_)
  refine lv_aload_n hx hb d_PF_init_55 rfl (lv_at hl 0 rfl) ?_
  refine lv_bipush (v := nI 120) hx hb d_PF_init_56 (by decide) ?_
  refine r_newa (ty := .int) (a0 := (120, .inl (fun _ => (0 : Int32)))) C h rfl ra_int 0 rfl wa_int (N' := 120) (ha_int0 120) (by decide) (by decide) (by decide) (Nat.le_of_ble_eq_true rfl) (Nat.le_of_ble_eq_true rfl) d_PF_init_58 (fun a10 H h => ?_)
  refine r_putF C h fl_PF_33 0 rfl rfl hin rfl rfl rfl (Nat.le_of_ble_eq_true rfl) (ws' := [(o, .inr (0, [.ref v, .ref a5, .ref a6, .ref a7, .ref a8, .ref a9, .ref a10, .int (nI 0), .null, .null, .null, .null, .null, .int (bI false), .int (bI false)])), (v, .inr (1, [.ref a1, .ref a2, .ref a3, .int (nI 0)])), (a1, .inl (cA 0, 21, .inl (fun _ => nI 0))), (a2, .inl (cA 1, 20, .inl (fun _ => bI false))), (a3, .inl (cA 1, 20, .inl (fun _ => bI false))), (a5, .inl (cA 2, 120, .inl (fun _ => nI 0))), (a6, .inl (cA 0, 120, .inl (fun _ => nI 0))), (a7, .inl (cA 0, 120, .inl (fun _ => nI 0))), (a8, .inl (cA 0, 120, .inl (fun _ => nI 0))), (a9, .inl (cA 0, 120, .inl (fun _ => (0 : Int32)))), (a10, .inl (cA 0, 120, .inl (fun _ => (0 : Int32))))]) rfl d_PF_init_60 (fun H locs h => ?_)
  refine lv_aload_n hx hb d_PF_init_63 rfl (lv_at hl 0 rfl) ?_
  refine lv_bipush (v := nI 120) hx hb d_PF_init_64 (by decide) ?_
  refine r_newq C h wl_PF_36 (N' := 120) (by decide) (by decide) (by decide) (Nat.le_of_ble_eq_true rfl) (Nat.le_of_ble_eq_true rfl) d_PF_init_66 (fun a12 H h => ?_)
  refine r_putF C h fl_PF_38 0 rfl rfl hin rfl rfl rfl (Nat.le_of_ble_eq_true rfl) (ws' := [(o, .inr (0, [.ref v, .ref a5, .ref a6, .ref a7, .ref a8, .ref a9, .ref a10, .int (nI 0), .ref a12, .null, .null, .null, .null, .int (bI false), .int (bI false)])), (v, .inr (1, [.ref a1, .ref a2, .ref a3, .int (nI 0)])), (a1, .inl (cA 0, 21, .inl (fun _ => nI 0))), (a2, .inl (cA 1, 20, .inl (fun _ => bI false))), (a3, .inl (cA 1, 20, .inl (fun _ => bI false))), (a5, .inl (cA 2, 120, .inl (fun _ => nI 0))), (a6, .inl (cA 0, 120, .inl (fun _ => nI 0))), (a7, .inl (cA 0, 120, .inl (fun _ => nI 0))), (a8, .inl (cA 0, 120, .inl (fun _ => nI 0))), (a9, .inl (cA 0, 120, .inl (fun _ => (0 : Int32)))), (a10, .inl (cA 0, 120, .inl (fun _ => (0 : Int32)))), (a12, .inl (cA 4, 120, .inr (.inr (.inr (.inr (fun _ => none))))))]) rfl d_PF_init_69 (fun H locs h => ?_)
  refine lv_aload_n hx hb d_PF_init_72 rfl (lv_at hl 0 rfl) ?_
  refine lv_bipush (v := nI 120) hx hb d_PF_init_73 (by decide) ?_
  refine r_newq C h wl_PF_36 (N' := 120) (by decide) (by decide) (by decide) (Nat.le_of_ble_eq_true rfl) (Nat.le_of_ble_eq_true rfl) d_PF_init_75 (fun a13 H h => ?_)
  refine r_putF C h fl_PF_42 0 rfl rfl hin rfl rfl rfl (Nat.le_of_ble_eq_true rfl) (ws' := [(o, .inr (0, [.ref v, .ref a5, .ref a6, .ref a7, .ref a8, .ref a9, .ref a10, .int (nI 0), .ref a12, .ref a13, .null, .null, .null, .int (bI false), .int (bI false)])), (v, .inr (1, [.ref a1, .ref a2, .ref a3, .int (nI 0)])), (a1, .inl (cA 0, 21, .inl (fun _ => nI 0))), (a2, .inl (cA 1, 20, .inl (fun _ => bI false))), (a3, .inl (cA 1, 20, .inl (fun _ => bI false))), (a5, .inl (cA 2, 120, .inl (fun _ => nI 0))), (a6, .inl (cA 0, 120, .inl (fun _ => nI 0))), (a7, .inl (cA 0, 120, .inl (fun _ => nI 0))), (a8, .inl (cA 0, 120, .inl (fun _ => nI 0))), (a9, .inl (cA 0, 120, .inl (fun _ => (0 : Int32)))), (a10, .inl (cA 0, 120, .inl (fun _ => (0 : Int32)))), (a12, .inl (cA 4, 120, .inr (.inr (.inr (.inr (fun _ => none)))))), (a13, .inl (cA 4, 120, .inr (.inr (.inr (.inr (fun _ => none))))))]) rfl d_PF_init_78 (fun H locs h => ?_)
  refine lv_aload_n hx hb d_PF_init_81 rfl (lv_at hl 0 rfl) ?_
  refine lv_bipush (v := nI 120) hx hb d_PF_init_82 (by decide) ?_
  refine r_newa (ty := .boolean) (a0 := (120, .inl (fun _ => bI false))) C h rfl ra_bool 1 rfl wa_boolean (N' := 120) (ha_bool 120) (by decide) (by decide) (by decide) (Nat.le_of_ble_eq_true rfl) (Nat.le_of_ble_eq_true rfl) d_PF_init_84 (fun a11 H h => ?_)
  refine r_putF C h fl_PF_45 0 rfl rfl hin rfl rfl rfl (Nat.le_of_ble_eq_true rfl) (ws' := [(o, .inr (0, [.ref v, .ref a5, .ref a6, .ref a7, .ref a8, .ref a9, .ref a10, .int (nI 0), .ref a12, .ref a13, .ref a11, .null, .null, .int (bI false), .int (bI false)])), (v, .inr (1, [.ref a1, .ref a2, .ref a3, .int (nI 0)])), (a1, .inl (cA 0, 21, .inl (fun _ => nI 0))), (a2, .inl (cA 1, 20, .inl (fun _ => bI false))), (a3, .inl (cA 1, 20, .inl (fun _ => bI false))), (a5, .inl (cA 2, 120, .inl (fun _ => nI 0))), (a6, .inl (cA 0, 120, .inl (fun _ => nI 0))), (a7, .inl (cA 0, 120, .inl (fun _ => nI 0))), (a8, .inl (cA 0, 120, .inl (fun _ => nI 0))), (a9, .inl (cA 0, 120, .inl (fun _ => (0 : Int32)))), (a10, .inl (cA 0, 120, .inl (fun _ => (0 : Int32)))), (a12, .inl (cA 4, 120, .inr (.inr (.inr (.inr (fun _ => none)))))), (a13, .inl (cA 4, 120, .inr (.inr (.inr (.inr (fun _ => none)))))), (a11, .inl (cA 1, 120, .inl (fun _ => bI false)))]) rfl d_PF_init_86 (fun H locs h => ?_)
  refine lv_aload_n hx hb d_PF_init_89 rfl (lv_at hl 0 rfl) ?_
  refine r_new (q0 := (R_PP, F_PP, 1)) (ty := t_PP) (ci := 2) (fs := [.null]) C h in_PP t_PP_ok rfl wl_PF_36 wt_PP wi_PP (fun j hj => by rcases (show j = 0 by have : j < 1 := hj; omega) with rfl; rfl) (Nat.le_of_ble_eq_true rfl) (Nat.le_of_ble_eq_true rfl) d_PF_init_90 (fun a14 H h => ?_)
  have h : Hp (va_A [(o, pf0)] s.heap.size) s D [(o, .inr (0, [.ref v, .ref a5, .ref a6, .ref a7, .ref a8, .ref a9, .ref a10, .int (nI 0), .ref a12, .ref a13, .ref a11, .null, .null, .int (bI false), .int (bI false)])), (v, .inr (1, [.ref a1, .ref a2, .ref a3, .int (nI 0)])), (a1, .inl (cA 0, 21, .inl (fun _ => nI 0))), (a2, .inl (cA 1, 20, .inl (fun _ => bI false))), (a3, .inl (cA 1, 20, .inl (fun _ => bI false))), (a5, .inl (cA 2, 120, .inl (fun _ => nI 0))), (a6, .inl (cA 0, 120, .inl (fun _ => nI 0))), (a7, .inl (cA 0, 120, .inl (fun _ => nI 0))), (a8, .inl (cA 0, 120, .inl (fun _ => nI 0))), (a9, .inl (cA 0, 120, .inl (fun _ => (0 : Int32)))), (a10, .inl (cA 0, 120, .inl (fun _ => (0 : Int32)))), (a12, .inl (cA 4, 120, .inr (.inr (.inr (.inr (fun _ => none)))))), (a13, .inl (cA 4, 120, .inr (.inr (.inr (.inr (fun _ => none)))))), (a11, .inl (cA 1, 120, .inl (fun _ => bI false))), (a14, .inr (2, [.null]))] H locs := h
  refine lv_dup hx hb d_PF_init_93 rfl ?_
  refine r_ctorN (o := a14) (rest := [.ref a14, .ref o]) C h hNW.2.2.2.2.2.1 wc_PP_init wi_PP wm_PP_init rfl (by decide +kernel) (c_PP_init l D cA [(o, .inr (0, [.ref v, .ref a5, .ref a6, .ref a7, .ref a8, .ref a9, .ref a10, .int (nI 0), .ref a12, .ref a13, .ref a11, .null, .null, .int (bI false), .int (bI false)])), (v, .inr (1, [.ref a1, .ref a2, .ref a3, .int (nI 0)])), (a1, .inl (cA 0, 21, .inl (fun _ => nI 0))), (a2, .inl (cA 1, 20, .inl (fun _ => bI false))), (a3, .inl (cA 1, 20, .inl (fun _ => bI false))), (a5, .inl (cA 2, 120, .inl (fun _ => nI 0))), (a6, .inl (cA 0, 120, .inl (fun _ => nI 0))), (a7, .inl (cA 0, 120, .inl (fun _ => nI 0))), (a8, .inl (cA 0, 120, .inl (fun _ => nI 0))), (a9, .inl (cA 0, 120, .inl (fun _ => (0 : Int32)))), (a10, .inl (cA 0, 120, .inl (fun _ => (0 : Int32)))), (a12, .inl (cA 4, 120, .inr (.inr (.inr (.inr (fun _ => none)))))), (a13, .inl (cA 4, 120, .inr (.inr (.inr (.inr (fun _ => none)))))), (a11, .inl (cA 1, 120, .inl (fun _ => bI false))), (a14, .inr (2, [.null]))] 14 a14 rfl) hl.1 (Nat.le_of_ble_eq_true rfl) ⟨Nat.le_of_ble_eq_true rfl, Nat.le_of_ble_eq_true rfl⟩ ⟨Nat.le_of_ble_eq_true rfl, Nat.le_of_ble_eq_true rfl⟩ d_PF_init_94 (fun u H locs hq h => ?_)
  obtain ⟨a15, rfl⟩ := hq
  have h : Hp (va_A [(o, pf0)] s.heap.size) s D [(o, .inr (0, [.ref v, .ref a5, .ref a6, .ref a7, .ref a8, .ref a9, .ref a10, .int (nI 0), .ref a12, .ref a13, .ref a11, .null, .null, .int (bI false), .int (bI false)])), (v, .inr (1, [.ref a1, .ref a2, .ref a3, .int (nI 0)])), (a1, .inl (cA 0, 21, .inl (fun _ => nI 0))), (a2, .inl (cA 1, 20, .inl (fun _ => bI false))), (a3, .inl (cA 1, 20, .inl (fun _ => bI false))), (a5, .inl (cA 2, 120, .inl (fun _ => nI 0))), (a6, .inl (cA 0, 120, .inl (fun _ => nI 0))), (a7, .inl (cA 0, 120, .inl (fun _ => nI 0))), (a8, .inl (cA 0, 120, .inl (fun _ => nI 0))), (a9, .inl (cA 0, 120, .inl (fun _ => (0 : Int32)))), (a10, .inl (cA 0, 120, .inl (fun _ => (0 : Int32)))), (a12, .inl (cA 4, 120, .inr (.inr (.inr (.inr (fun _ => none)))))), (a13, .inl (cA 4, 120, .inr (.inr (.inr (.inr (fun _ => none)))))), (a11, .inl (cA 1, 120, .inl (fun _ => bI false))), (a14, pO a15), (a15, pL cA F0b)] H locs := h
  refine r_putF C h fl_PF_50 0 rfl rfl hin rfl rfl rfl (Nat.le_of_ble_eq_true rfl) (ws' := [(o, .inr (0, [.ref v, .ref a5, .ref a6, .ref a7, .ref a8, .ref a9, .ref a10, .int (nI 0), .ref a12, .ref a13, .ref a11, .ref a14, .null, .int (bI false), .int (bI false)])), (v, .inr (1, [.ref a1, .ref a2, .ref a3, .int (nI 0)])), (a1, .inl (cA 0, 21, .inl (fun _ => nI 0))), (a2, .inl (cA 1, 20, .inl (fun _ => bI false))), (a3, .inl (cA 1, 20, .inl (fun _ => bI false))), (a5, .inl (cA 2, 120, .inl (fun _ => nI 0))), (a6, .inl (cA 0, 120, .inl (fun _ => nI 0))), (a7, .inl (cA 0, 120, .inl (fun _ => nI 0))), (a8, .inl (cA 0, 120, .inl (fun _ => nI 0))), (a9, .inl (cA 0, 120, .inl (fun _ => (0 : Int32)))), (a10, .inl (cA 0, 120, .inl (fun _ => (0 : Int32)))), (a12, .inl (cA 4, 120, .inr (.inr (.inr (.inr (fun _ => none)))))), (a13, .inl (cA 4, 120, .inr (.inr (.inr (.inr (fun _ => none)))))), (a11, .inl (cA 1, 120, .inl (fun _ => bI false))), (a14, pO a15), (a15, pL cA F0b)]) rfl d_PF_init_97 (fun H locs h => ?_)
  refine lv_aload_n hx hb d_PF_init_100 rfl (lv_at hl 0 rfl) ?_
  refine r_new (q0 := (R_PP, F_PP, 1)) (ty := t_PP) (ci := 2) (fs := [.null]) C h in_PP t_PP_ok rfl wl_PF_36 wt_PP wi_PP (fun j hj => by rcases (show j = 0 by have : j < 1 := hj; omega) with rfl; rfl) (Nat.le_of_ble_eq_true rfl) (Nat.le_of_ble_eq_true rfl) d_PF_init_101 (fun a16 H h => ?_)
  have h : Hp (va_A [(o, pf0)] s.heap.size) s D [(o, .inr (0, [.ref v, .ref a5, .ref a6, .ref a7, .ref a8, .ref a9, .ref a10, .int (nI 0), .ref a12, .ref a13, .ref a11, .ref a14, .null, .int (bI false), .int (bI false)])), (v, .inr (1, [.ref a1, .ref a2, .ref a3, .int (nI 0)])), (a1, .inl (cA 0, 21, .inl (fun _ => nI 0))), (a2, .inl (cA 1, 20, .inl (fun _ => bI false))), (a3, .inl (cA 1, 20, .inl (fun _ => bI false))), (a5, .inl (cA 2, 120, .inl (fun _ => nI 0))), (a6, .inl (cA 0, 120, .inl (fun _ => nI 0))), (a7, .inl (cA 0, 120, .inl (fun _ => nI 0))), (a8, .inl (cA 0, 120, .inl (fun _ => nI 0))), (a9, .inl (cA 0, 120, .inl (fun _ => (0 : Int32)))), (a10, .inl (cA 0, 120, .inl (fun _ => (0 : Int32)))), (a12, .inl (cA 4, 120, .inr (.inr (.inr (.inr (fun _ => none)))))), (a13, .inl (cA 4, 120, .inr (.inr (.inr (.inr (fun _ => none)))))), (a11, .inl (cA 1, 120, .inl (fun _ => bI false))), (a14, pO a15), (a15, pL cA F0b), (a16, .inr (2, [.null]))] H locs := h
  refine lv_dup hx hb d_PF_init_104 rfl ?_
  refine r_ctorN (o := a16) (rest := [.ref a16, .ref o]) C h hNW.2.2.2.2.2.1 wc_PP_init wi_PP wm_PP_init rfl (by decide +kernel) (c_PP_init l D cA [(o, .inr (0, [.ref v, .ref a5, .ref a6, .ref a7, .ref a8, .ref a9, .ref a10, .int (nI 0), .ref a12, .ref a13, .ref a11, .ref a14, .null, .int (bI false), .int (bI false)])), (v, .inr (1, [.ref a1, .ref a2, .ref a3, .int (nI 0)])), (a1, .inl (cA 0, 21, .inl (fun _ => nI 0))), (a2, .inl (cA 1, 20, .inl (fun _ => bI false))), (a3, .inl (cA 1, 20, .inl (fun _ => bI false))), (a5, .inl (cA 2, 120, .inl (fun _ => nI 0))), (a6, .inl (cA 0, 120, .inl (fun _ => nI 0))), (a7, .inl (cA 0, 120, .inl (fun _ => nI 0))), (a8, .inl (cA 0, 120, .inl (fun _ => nI 0))), (a9, .inl (cA 0, 120, .inl (fun _ => (0 : Int32)))), (a10, .inl (cA 0, 120, .inl (fun _ => (0 : Int32)))), (a12, .inl (cA 4, 120, .inr (.inr (.inr (.inr (fun _ => none)))))), (a13, .inl (cA 4, 120, .inr (.inr (.inr (.inr (fun _ => none)))))), (a11, .inl (cA 1, 120, .inl (fun _ => bI false))), (a14, pO a15), (a15, pL cA F0b), (a16, .inr (2, [.null]))] 16 a16 rfl) hl.1 (Nat.le_of_ble_eq_true rfl) ⟨Nat.le_of_ble_eq_true rfl, Nat.le_of_ble_eq_true rfl⟩ ⟨Nat.le_of_ble_eq_true rfl, Nat.le_of_ble_eq_true rfl⟩ d_PF_init_105 (fun u H locs hq h => ?_)
  obtain ⟨a17, rfl⟩ := hq
  have h : Hp (va_A [(o, pf0)] s.heap.size) s D [(o, .inr (0, [.ref v, .ref a5, .ref a6, .ref a7, .ref a8, .ref a9, .ref a10, .int (nI 0), .ref a12, .ref a13, .ref a11, .ref a14, .null, .int (bI false), .int (bI false)])), (v, .inr (1, [.ref a1, .ref a2, .ref a3, .int (nI 0)])), (a1, .inl (cA 0, 21, .inl (fun _ => nI 0))), (a2, .inl (cA 1, 20, .inl (fun _ => bI false))), (a3, .inl (cA 1, 20, .inl (fun _ => bI false))), (a5, .inl (cA 2, 120, .inl (fun _ => nI 0))), (a6, .inl (cA 0, 120, .inl (fun _ => nI 0))), (a7, .inl (cA 0, 120, .inl (fun _ => nI 0))), (a8, .inl (cA 0, 120, .inl (fun _ => nI 0))), (a9, .inl (cA 0, 120, .inl (fun _ => (0 : Int32)))), (a10, .inl (cA 0, 120, .inl (fun _ => (0 : Int32)))), (a12, .inl (cA 4, 120, .inr (.inr (.inr (.inr (fun _ => none)))))), (a13, .inl (cA 4, 120, .inr (.inr (.inr (.inr (fun _ => none)))))), (a11, .inl (cA 1, 120, .inl (fun _ => bI false))), (a14, pO a15), (a15, pL cA F0b), (a16, pO a17), (a17, pL cA F0b)] H locs := h
  refine r_putF C h fl_PF_54 0 rfl rfl hin rfl rfl rfl (Nat.le_of_ble_eq_true rfl) (ws' := [(o, .inr (0, [.ref v, .ref a5, .ref a6, .ref a7, .ref a8, .ref a9, .ref a10, .int (nI 0), .ref a12, .ref a13, .ref a11, .ref a14, .ref a16, .int (bI false), .int (bI false)])), (v, .inr (1, [.ref a1, .ref a2, .ref a3, .int (nI 0)])), (a1, .inl (cA 0, 21, .inl (fun _ => nI 0))), (a2, .inl (cA 1, 20, .inl (fun _ => bI false))), (a3, .inl (cA 1, 20, .inl (fun _ => bI false))), (a5, .inl (cA 2, 120, .inl (fun _ => nI 0))), (a6, .inl (cA 0, 120, .inl (fun _ => nI 0))), (a7, .inl (cA 0, 120, .inl (fun _ => nI 0))), (a8, .inl (cA 0, 120, .inl (fun _ => nI 0))), (a9, .inl (cA 0, 120, .inl (fun _ => (0 : Int32)))), (a10, .inl (cA 0, 120, .inl (fun _ => (0 : Int32)))), (a12, .inl (cA 4, 120, .inr (.inr (.inr (.inr (fun _ => none)))))), (a13, .inl (cA 4, 120, .inr (.inr (.inr (.inr (fun _ => none)))))), (a11, .inl (cA 1, 120, .inl (fun _ => bI false))), (a14, pO a15), (a15, pL cA F0b), (a16, pO a17), (a17, pL cA F0b)]) rfl d_PF_init_108 (fun H locs h => ?_)
  refine lv_iconst (v := nI 0) hx hb d_PF_init_111 (by decide) ?_
  refine lv_istore_n (lv' := [(1, .int (nI 0)), (0, .ref o)]) hx hb d_PF_init_112 rfl hl (by decide) rfl (fun ls hl => ?_)
  obtain ⟨ad, had⟩ : ∃ ad : Nat → Nat, ad = fun k => [o, v, a1, a2, a3, a5, a6, a7, a8, a9, a10, a11, a12, a13, a14, a15, a16, a17].getD k 0 := ⟨_, rfl⟩
  have hao : ad 0 = o := by rw [had]; rfl
  have h : Hp (va_A [(o, pf0)] s.heap.size) s D (wI cA ad (fun _ => 0) 0) H locs := by
    have hw : wI cA ad (fun _ => 0) 0 = fixC cA ad (fun _ => none) (fun _ => none) := by
      show fixC cA ad (rfW (fun _ => 0) 0) (rfH (fun _ => 0) 0) ++ [] = _
      rw [List.append_nil]; rfl
    rw [hw, had]
    exact ⟨h.1.sub [0, 1, 2, 3, 4, 5, 6, 7, 8, 9, 10, 13, 11, 12, 14, 15, 16, 17] rfl, h.2.1.sub [0, 1, 2, 3, 4, 5, 6, 7, 8, 9, 10, 13, 11, 12, 14, 15, 16, 17] (by decide) rfl, h.2.2.1, h.2.2.2⟩
  clear had
  rw [← hao] at hl
  refine W.widen (k := 17 + 4 * 0) (n := 1153 + 8 * 0) (Nat.le_of_ble_eq_true rfl) (Nat.le_of_ble_eq_true rfl) ?_
  refine w_loopC (σ := Nat × (Nat → Nat)) 113 (fun x => 120 - x.1) (fun x => 17 + 4 * x.1) (fun x => 1153 + 8 * x.1) (fun x H locs ls => x.1 ≤ 120 ∧ Hp (va_A [(o, pf0)] s.heap.size) s D (wI cA ad x.2 x.1) H locs ∧ lv_has ls 2 [(1, .int (nI x.1)), (0, .ref (ad 0))]) ?_ (0, fun _ => 0) ⟨Nat.zero_le _, h, hl⟩
  intro ⟨i, pad⟩ H locs ls ⟨hi, h, hl⟩ ih
  dsimp only at hi h hl ih ⊢
  refine lv_iload_n hx hb d_PF_init_113 rfl (lv_at hl 0 rfl) ?_
  refine lv_bipush (v := nI 120) hx hb d_PF_init_114 (by decide) ?_
  refine lv_icmp_ge (tgt := 151) hx hb d_PF_init_116 (by decide) (fun c1 => ?_) (fun c1 => ?_)
  · have hi9 : i = 120 := by rcases Nat.lt_or_ge i 120 with z | z; exact absurd c1 (nI_ge z (by decide)); omega
    subst hi9
    obtain ⟨ad9, e9, h9⟩ := wI_end cA ad pad h
    exact r_vret C h9 hr ⟨ad9, e9.trans hao, rfl⟩ d_PF_init_151
  · have hlt : i < 120 := by rcases Nat.lt_or_ge i 120 with z | z; exact z; exact absurd (nI_le z (by omega)) c1
    have hlen := wI_len cA ad pad i
    refine lv_aload_n hx hb d_PF_init_119 rfl (lv_at hl 1 rfl) ?_
    refine r_get C h fl_PF_38 0 rfl rfl d_PF_init_120 ?_
    refine lv_iload_n hx hb d_PF_init_123 rfl (lv_at hl 0 rfl) ?_
    refine r_new (q0 := (R_PP, F_PP, 1)) (ty := t_PP) (ci := 2) (fs := [.null]) C h in_PP t_PP_ok rfl wl_PF_36 wt_PP wi_PP (fun j hj => by rcases (show j = 0 by have : j < 1 := hj; omega) with rfl; rfl) (by show 17 + 4 * i + 1 ≤ 497; omega) (by show 1153 + 8 * i + 1 ≤ 2113; omega) d_PF_init_124 (fun q1 H h => ?_)
    refine lv_dup hx hb d_PF_init_127 rfl ?_
    refine r_ctorN (o := q1) (rest := [.ref q1, .int (nI i), .ref (ad 12)]) C h hNW.2.2.2.2.2.1 wc_PP_init wi_PP wm_PP_init rfl (by decide +kernel) (c_PP_init l D cA (wI cA ad pad i ++ [(q1, .inr (2, [.null]))]) (18 + 4 * i) q1 (ap_last hlen)) hl.1 (Nat.le_of_ble_eq_true rfl) ⟨Nat.le_of_ble_eq_true rfl, Nat.le_of_ble_eq_true rfl⟩ ⟨by show 17 + 4 * i + 1 + 1 ≤ 497; omega, by show 1153 + 8 * i + 1 + 3 ≤ 2113; omega⟩ d_PF_init_128 (fun u H locs hq h => ?_)
    obtain ⟨l1, rfl⟩ := hq
    have h : Hp (va_A [(o, pf0)] s.heap.size) s D (wI cA ad pad i ++ [(q1, pO l1), (l1, pL cA F0b)]) H locs := by
      have e1 : (wI cA ad pad i ++ [(q1, pN)]).set (18 + 4 * i) (q1, pO l1) ++ [(l1, pL cA F0b)] = wI cA ad pad i ++ [(q1, pO l1), (l1, pL cA F0b)] := by
        rw [List.set_append_right _ _ (by omega), hlen, Nat.sub_self, List.append_assoc]; rfl
      rw [← e1]; exact h
    refine r_qast C h 12 (18 + 4 * i) rfl (show (wI cA ad pad i ++ [(q1, pO l1), (l1, pL cA F0b)])[18 + 4 * i]? = some (q1, pO l1) by rw [List.getElem?_append_right (by omega), hlen, Nat.sub_self]; rfl) i hlt rfl (by decide) (ws' := fixC cA ad (va_up (rfW pad i) i (some q1)) (rfH pad i) ++ (List.range (4 * i)).map (pcI cA pad) ++ [(q1, pO l1), (l1, pL cA F0b)]) rfl d_PF_init_131 (fun H locs h => ?_)
    have hlen2 : (fixC cA ad (va_up (rfW pad i) i (some q1)) (rfH pad i) ++ (List.range (4 * i)).map (pcI cA pad) ++ [(q1, pO l1), (l1, pL cA F0b)]).length = 20 + 4 * i := by rw [List.length_append, List.length_append, List.length_map, List.length_range]; show 18 + 4 * i + 2 = _; omega
    refine lv_aload_n hx hb d_PF_init_132 rfl (lv_at hl 1 rfl) ?_
    refine r_get C h fl_PF_42 0 rfl rfl d_PF_init_133 ?_
    refine lv_iload_n hx hb d_PF_init_136 rfl (lv_at hl 0 rfl) ?_
    refine r_new (q0 := (R_PP, F_PP, 1)) (ty := t_PP) (ci := 2) (fs := [.null]) C h in_PP t_PP_ok rfl wl_PF_36 wt_PP wi_PP (fun j hj => by rcases (show j = 0 by have : j < 1 := hj; omega) with rfl; rfl) (by show 17 + 4 * i + 1 + 1 + 1 ≤ 497; omega) (by show 1153 + 8 * i + 1 + 3 + 1 ≤ 2113; omega) d_PF_init_137 (fun q2 H h => ?_)
    refine lv_dup hx hb d_PF_init_140 rfl ?_
    refine r_ctorN (o := q2) (rest := [.ref q2, .int (nI i), .ref (ad 13)]) C h hNW.2.2.2.2.2.1 wc_PP_init wi_PP wm_PP_init rfl (by decide +kernel) (c_PP_init l D cA (fixC cA ad (va_up (rfW pad i) i (some q1)) (rfH pad i) ++ (List.range (4 * i)).map (pcI cA pad) ++ [(q1, pO l1), (l1, pL cA F0b)] ++ [(q2, .inr (2, [.null]))]) (20 + 4 * i) q2 (ap_last hlen2)) hl.1 (Nat.le_of_ble_eq_true rfl) ⟨Nat.le_of_ble_eq_true rfl, Nat.le_of_ble_eq_true rfl⟩ ⟨by show 17 + 4 * i + 1 + 1 + 1 + 1 ≤ 497; omega, by show 1153 + 8 * i + 1 + 3 + 1 + 3 ≤ 2113; omega⟩ d_PF_init_141 (fun u H locs hq h => ?_)
    obtain ⟨l2, rfl⟩ := hq
    have h : Hp (va_A [(o, pf0)] s.heap.size) s D (fixC cA ad (va_up (rfW pad i) i (some q1)) (rfH pad i) ++ (List.range (4 * i)).map (pcI cA pad) ++ [(q1, pO l1), (l1, pL cA F0b)] ++ [(q2, pO l2), (l2, pL cA F0b)]) H locs := by
      have e1 : (fixC cA ad (va_up (rfW pad i) i (some q1)) (rfH pad i) ++ (List.range (4 * i)).map (pcI cA pad) ++ [(q1, pO l1), (l1, pL cA F0b)] ++ [(q2, pN)]).set (20 + 4 * i) (q2, pO l2) ++ [(l2, pL cA F0b)] = fixC cA ad (va_up (rfW pad i) i (some q1)) (rfH pad i) ++ (List.range (4 * i)).map (pcI cA pad) ++ [(q1, pO l1), (l1, pL cA F0b)] ++ [(q2, pO l2), (l2, pL cA F0b)] := by
        rw [List.set_append_right _ _ (by omega), hlen2, Nat.sub_self, List.append_assoc]; rfl
      rw [← e1]; exact h
    refine r_qast C h 13 (20 + 4 * i) rfl (show (fixC cA ad (va_up (rfW pad i) i (some q1)) (rfH pad i) ++ (List.range (4 * i)).map (pcI cA pad) ++ [(q1, pO l1), (l1, pL cA F0b)] ++ [(q2, pO l2), (l2, pL cA F0b)])[20 + 4 * i]? = some (q2, pO l2) by rw [List.getElem?_append_right (by omega), hlen2, Nat.sub_self]; rfl) i hlt rfl (by decide) (ws' := fixC cA ad (va_up (rfW pad i) i (some q1)) (va_up (rfH pad i) i (some q2)) ++ (List.range (4 * i)).map (pcI cA pad) ++ [(q1, pO l1), (l1, pL cA F0b)] ++ [(q2, pO l2), (l2, pL cA F0b)]) rfl d_PF_init_144 (fun H locs h => ?_)
    have h : Hp (va_A [(o, pf0)] s.heap.size) s D (wI cA ad (padI pad i q1 l1 q2 l2) (i + 1)) H locs := by
      show Hp _ s D (fixC cA ad (rfW (padI pad i q1 l1 q2 l2) (i + 1)) (rfH (padI pad i q1 l1 q2 l2) (i + 1)) ++ (List.range (4 * (i + 1))).map (pcI cA (padI pad i q1 l1 q2 l2))) H locs
      rw [← pool_step, ← rfW_s, ← rfH_s, ← List.append_assoc]
      rw [List.append_assoc] at h
      rw [List.append_assoc]; exact h
    refine lv_iinc (v := nI (i + 1)) (lv' := [(1, .int (nI (i + 1))), (0, .ref (ad 0))]) hx hb d_PF_init_145 hl (k := 0) rfl (nI_iinc i) (by decide) rfl (fun ls hl => ?_)
    refine lv_goto (tgt := 113) hx hb d_PF_init_148 (by decide) ?_
    refine W.widen (k := 17 + 4 * (i + 1)) (n := 1153 + 8 * (i + 1)) (by show 17 + 4 * i + 1 + 1 + 1 + 1 ≤ 17 + 4 * (i + 1); omega) (by show 1153 + 8 * i + 1 + 3 + 1 + 3 ≤ 1153 + 8 * (i + 1); omega) ?_
    exact ih (i + 1, padI pad i q1 l1 q2 l2) H locs ls ⟨hlt, h, hl⟩ (by show 120 - (i + 1) < 120 - i; omega)
end
section
/-! PartsFlow and its reference answer alike (pure) -/
def Rel (V : VS) (G : GS) (M : MS) : Prop :=
  VIn V ∧ gN G ≤ 120 ∧ (∀ q, q < gN G → okG V G q) ∧ MIn M ∧ mN M = vN V ∧ mK M = gN G ∧
  (∀ v, v < vN V → mP M v = vF V (v + 1) - vF V v ∧ mO M v = vO V v ∧ mG M v = vG V v) ∧
  (∀ p, p < gN G → mD M p = gD G p ∧ mX M p = gX G p ∧ mY M p = gY G p ∧ (¬ gD G p = 0 → mF M p = nI (gO G p) ∧ mR M p = nI (gP G p) ∧ mM M p = gC G p))
section LINK
variable {V : VS} {G : GS} {M : MS}
theorem Rel.rn (h : Rel V G M) {p : Nat} : RN (gN G) (gX G) (gY G) p ↔ RN (mK M) (mX M) (mY M) p := by
  obtain ⟨-, -, -, -, -, hK, -, hp⟩ := h
  rw [hK]
  exact RN_iff (fun a ha => ⟨(hp a ha).2.1.symm, (hp a ha).2.2.1.symm⟩)
theorem Rel.reach (h : Rel V G M) (x : Int32) : aReach G x = mReach M x := by
  unfold aReach mReach
  rw [dcd_congr h.rn, h.2.2.2.2.2.1]
theorem Rel.tr (h : Rel V G M) {v q a : Nat} (hv : v < vN V) (hq : q < vF V (v + 1) - vF V v) (ha : a < gN G) (w : Bool) : trK V G (vF V v + q) a w = trM M (nI v) (nI q) a w := by
  obtain ⟨hV, hn, hG, hM, hN, hK, hvv, hp⟩ := h
  have hV20 := hV.1
  have h160 := hV.le160 (v + 1) (by omega)
  obtain ⟨e1, e2, e3, e4⟩ := hp a ha
  obtain ⟨hd5, hg⟩ := hG a ha
  unfold trK trM isT
  by_cases c0 : gD G a = 0
  · rw [if_pos (Or.inl c0), if_neg]
    intro z
    have z1 := (of_decide_eq_true z).1
    rcases (hM.2.2.2 a (by omega)).2 with ⟨-, z2⟩ | ⟨z2, -⟩
    · rw [z2] at z1
      exact nI_nm1 (by omega) z1.symm
    · omega
  · by_cases c3 : gD G a = 3
    · rw [if_pos (Or.inr c3), if_neg]
      intro z
      exact (of_decide_eq_true z).2.2.2 (by rw [e1]; exact c3)
    · rw [if_neg (fun z => z.elim c0 c3)]
      obtain ⟨f1, f2, f3⟩ := e4 c0
      obtain ⟨ho, hfc⟩ := hg.resolve_left c0
      have h160b := hV.le160 (gO G a + 1) (by omega)
      have key : (vF V (gO G a) + gP G a ≤ vF V v + q ∧ vF V v + q < vF V (gO G a) + gP G a + gC G a) ↔ decide (mF M a = nI v ∧ ¬ nI q < mR M a ∧ nI q < mR M a + nI (mM M a) ∧ ¬ mD M a = 3) = true := by
        rw [decide_eq_true_eq, f1, f2, f3, e1, nI_add, nI_eq (by omega) (by omega), nI_ltI (by omega) (by omega), nI_ltI (by omega) (by omega)]
        constructor
        · rintro ⟨g1, g2⟩
          have hov : gO G a = v := by
            rcases Nat.lt_trichotomy (gO G a) v with z | z | z
            · have := hV.mono (gO G a + 1) v (by omega) (by omega); omega
            · exact z
            · have := hV.mono (v + 1) (gO G a) (by omega) (by omega); omega
          rw [hov] at g1 g2
          exact ⟨hov, by omega, by omega, c3⟩
        · rintro ⟨g1, g2, g3, -⟩
          rw [g1]; omega
      by_cases hc : vF V (gO G a) + gP G a ≤ vF V v + q ∧ vF V v + q < vF V (gO G a) + gP G a + gC G a
      · rw [if_pos hc, if_pos (key.mp hc), e1]
      · rw [if_neg hc, if_neg (fun z => hc (key.mpr z))]
theorem Rel.rm (h : Rel V G M) {v q p : Nat} {w : Bool} (hv : v < vN V) (hq : q < vF V (v + 1) - vF V v) : RP (gN G) (gX G) (gY G) (gK V (vF V v + q)) (trK V G (vF V v + q)) p w ↔ RM M (nI v) (nI q) p w := by
  have ht := fun a ha w => h.tr (a := a) hv hq ha w
  obtain ⟨hV, hn, hG, hM, hN, hK, hvv, hp⟩ := h
  have hV20 := hV.1
  have hg : gK V (vF V v + q) = g0M M (nI v) := by
    unfold gK g0M
    rw [nhI_at hV (v := v) (by omega) (by omega) _ (Nat.le_refl _) hv, hN, isN_nI (by omega) hv, show ixI (nI v) = v from nI_clamp (by omega), (hvv v hv).2.2]
    rfl
  show _ ↔ RP (mK M) (mX M) (mY M) (g0M M (nI v)) (trM M (nI v) (nI q)) p w
  rw [hg, hK]
  exact RP_iff (fun a ha => ⟨(hp a ha).2.1.symm, (hp a ha).2.2.1.symm⟩) ht
theorem Rel.bits (h : Rel V G M) (x y : Int32) (w : Bool) : aBits V G x y w = mBits M x y w := by
  have hV20 := h.1.1
  have hN := h.2.2.2.2.1
  have hK := h.2.2.2.2.2.1
  unfold aBits mBits mBn
  rw [hN, hK]
  by_cases c : isN (gN G) x = true ∧ isN (vN V) y = true
  · rw [if_pos c, if_pos c]
    obtain ⟨v, hv, rfl⟩ := (isN_t (by omega)).mp c.2
    rw [show ixI (nI v) = v from nI_clamp (by omega), (h.2.2.2.2.2.2.1 v hv).1]
    exact orB_congr _ (fun q hq => dcd_congr (h.rm hv hq))
  · rw [if_neg c, if_neg c]; rfl
theorem Rel.fltP (h : Rel V G M) {p : Nat} (hp : p < gN G) : aFltP V G p = mFltP M p := by
  have hrn := dcd_congr (h.rn (p := p))
  have hbits := h.bits (nI p)
  obtain ⟨hV, hn, hG, hM, hN, hK, hvv, hpp⟩ := h
  have hV20 := hV.1
  obtain ⟨e1, -, -, e4⟩ := hpp p hp
  obtain ⟨hd5, hg⟩ := hG p hp
  unfold aFltP mFltP
  rw [e1, hrn]
  by_cases c0 : dcd (RN (mK M) (mX M) (mY M) p) = false ∨ gD G p = 0
  · rw [if_pos c0, if_pos (c0.elim (fun z => Or.inr (Or.inr z)) Or.inl)]
  · rw [if_neg c0]
    have c00 : ¬ gD G p = 0 := fun z => c0 (Or.inr z)
    have c01 : ¬ dcd (RN (mK M) (mX M) (mY M) p) = false := fun z => c0 (Or.inl z)
    obtain ⟨f1, f2, f3⟩ := e4 c00
    obtain ⟨ho, hfc⟩ := hg.resolve_left c00
    have hmo := hV.2.2 (gO G p) ho
    have hix : ixI (mF M p) = gO G p := by rw [f1]; exact nI_clamp (by omega)
    have hixp : ixI (nI p) = p := nI_clamp (by omega)
    have hB : ∀ w, mBits M (nI p) (mF M p) w = orB (fun q => wR V G p (vF V (gO G p) + q) w) (vF V (gO G p + 1) - vF V (gO G p)) := by
      intro w
      rw [← hbits (mF M p) w]
      unfold aBits
      rw [f1, if_pos ⟨isN_nI (by omega) hp, isN_nI (by omega) ho⟩, hixp, show ixI (nI (gO G p)) = gO G p from nI_clamp (by omega)]
    by_cases c2 : gD G p = 2 ∨ gD G p = 3
    · rw [if_pos c2, if_neg (fun z : gD G p = 0 ∨ 3 < gD G p ∨ dcd (RN (mK M) (mX M) (mY M) p) = false => z.elim c00 (fun y => y.elim (fun u => by omega) c01)), if_neg (show ¬ gD G p = 1 by omega), hB false, f2, f3]
      have k1 := orB_off (f := fun q => wR V G p (vF V (gO G p) + q) false) (a := gC G p) (b := gP G p) (by omega)
      have k2 := orB_mask (f := fun q => wR V G p (vF V (gO G p) + q) false) (n := vF V (gO G p + 1) - vF V (gO G p)) (a := gC G p) (b := gP G p) (by omega) (by omega)
      have k3 : orB (fun q => wR V G p (vF V (gO G p) + gP G p + q) false) (gC G p) = orB (fun k => wR V G p (vF V (gO G p) + (gP G p + k)) false) (gC G p) := orB_congr _ (fun k _ => by rw [Nat.add_assoc])
      rw [k3]
      by_cases c3 : orB (fun k => wR V G p (vF V (gO G p) + (gP G p + k)) false) (gC G p) = 0
      · rw [if_pos c3, if_pos]
        exact Classical.not_not.mp (fun z => (k1.mpr (k2.mp z)) c3)
      · rw [if_neg c3, if_neg (k2.mpr (k1.mp c3))]
    · rw [if_neg c2]
      by_cases c1 : gD G p = 1
      · rw [if_neg (fun z : gD G p = 0 ∨ 3 < gD G p ∨ dcd (RN (mK M) (mX M) (mY M) p) = false => z.elim c00 (fun y => y.elim (fun u => by omega) c01)), if_pos c1, hix, (hvv (gO G p) ho).2.1]
        by_cases c4 : vO V (gO G p) = true
        · rw [if_pos ⟨c1, c4⟩, if_pos c4, f3, (hvv (gO G p) ho).1]
          by_cases c5 : gC G p < vF V (gO G p + 1) - vF V (gO G p)
          · rw [if_pos c5, if_pos c5]
          · rw [if_neg c5, if_neg c5, hB]
            have hP0 : gP G p = 0 := by omega
            have hC0 : gC G p = vF V (gO G p + 1) - vF V (gO G p) := by omega
            rw [hP0, hC0, Nat.add_zero]
        · rw [if_neg (fun z => c4 z.2), if_neg c4]
      · rw [if_neg (fun z => c1 z.1), if_pos (Or.inr (Or.inl (by omega)))]
theorem Rel.fault (h : Rel V G M) (x : Int32) : aFault V G x = mFault M x := by
  have hn := h.2.1
  unfold aFault mFault
  rw [h.2.2.2.2.2.1]
  by_cases c : isN (gN G) x = true
  · obtain ⟨p, hp, rfl⟩ := (isN_t (by omega)).mp c
    rw [if_pos c, if_pos c, show ixI (nI p) = p from nI_clamp (by omega), h.fltP hp]
  · rw [if_neg c, if_neg c]
theorem Rel.sum (h : Rel V G M) : ∀ i, i ≤ vN V → psum (mP M) i = vF V i
  | 0, _ => h.1.2.1.symm
  | i + 1, hi => by
    have h1 := h.sum i (by omega)
    have h2 := (h.2.2.2.2.2.2.1 i (by omega)).1
    have h3 := h.1.2.2 i (by omega)
    show psum (mP M) i + mP M i = _
    omega
theorem Rel.count (h : Rel V G M) (x : Int32) : aCount V G x = mCount M x := by
  have hn := h.2.1
  unfold aCount mCount
  rw [h.2.2.2.2.2.1, h.2.2.2.2.1, h.sum (vN V) (Nat.le_refl _)]
  have hR : ∀ c f, runI (aIs V G 1) (gN G) c f = runI (isR M) (gN G) c f := fun c f => runI_congr _ _ _ (fun j hj => by unfold aIs isR; rw [if_pos rfl, dcd_congr h.rn])
  have hB : ∀ y : Int32, ¬ y = 1 → ∀ c f, runI (aIs V G y) (gN G) c f = runI (isB M) (gN G) c f := fun y hy c f => runI_congr _ _ _ (fun j hj => by unfold aIs isB; rw [if_neg hy, h.fltP hj])
  by_cases c0 : x < 0 ∨ nI 5 < x
  · rw [if_pos c0]
    have g : ∀ k, k ≤ 5 → ¬ x = nI k := by
      intro k hk z
      rw [z] at c0
      exact c0.elim (fun y => nI_pos (by omega) y) (fun y => nI_nlt hk (by decide) y)
    rw [if_neg (by rw [← nI_0]; exact g 0 (by omega)), if_neg (show ¬ x = 1 from g 1 (by omega)), if_neg (g 2 (by omega)), if_neg (g 3 (by omega)), if_neg (g 4 (by omega)), if_neg (g 5 (by omega))]
  · rw [if_neg c0]
    obtain ⟨j, hj, rfl⟩ := nI_of (fun z => c0 (Or.inl z))
    have hj5 : j ≤ 5 := by
      rcases Nat.lt_or_ge 5 j with z | z
      · exact absurd (Or.inr (nI_lt z hj)) c0
      · exact z
    have hc : j = 0 ∨ j = 1 ∨ j = 2 ∨ j = 3 ∨ j = 4 ∨ j = 5 := by omega
    rcases hc with rfl | rfl | rfl | rfl | rfl | rfl
    · rw [if_pos nI_0, if_pos nI_0]
    · rw [if_neg (by decide), if_neg (by decide), if_neg (by decide), if_neg (by decide), if_pos (show nI 1 = 1 from rfl), show nI 1 = (1 : Int32) from rfl, hR]
    · rw [if_neg (by decide), if_neg (by decide), if_neg (by decide), if_neg (by decide), if_neg (by decide), if_pos rfl, hB _ (by decide)]
    · rw [if_neg (by decide), if_neg (by decide), if_pos rfl, if_neg (by decide), if_neg (by decide), if_neg (by decide), if_pos rfl, hB _ (by decide)]
    · rw [if_neg (by decide), if_pos (by decide), if_pos rfl, if_neg (by decide), if_neg (by decide), if_neg (by decide), if_neg (by decide), if_pos rfl]
    · rw [if_neg (by decide), if_pos (by decide), if_neg (by decide), if_neg (by decide), if_neg (by decide), if_neg (by decide), if_neg (by decide), if_neg (by decide), if_pos rfl]
end LINK
end
section
/-! The relation is kept by every change -/
theorem Rel_0 : Rel V0 G0 M0 := by
  refine ⟨⟨Nat.zero_le _, rfl, fun j hj => absurd hj (Nat.not_lt_zero _)⟩, Nat.zero_le _, fun q hq => absurd hq (Nat.not_lt_zero _), ⟨Nat.zero_le _, Nat.zero_le _, fun j hj => absurd hj (Nat.not_lt_zero _), fun j hj => absurd hj (Nat.not_lt_zero _)⟩, rfl, rfl, fun j hj => absurd hj (Nat.not_lt_zero _), fun j hj => absurd hj (Nat.not_lt_zero _)⟩
theorem okV_un {nv : Nat} {x : Int32} {k k' : Nat} (h : okV nv x k) (h' : okV nv x k') : k = k' := (nI_eq (by have := h.2.2.1; omega) (by have := h'.2.2.1; omega)).mp (h.1.symm.trans h'.1)
theorem okV_no {nv : Nat} {x : Int32} {k : Nat} (h : okV nv x k) (h' : noV nv x) : False := by
  obtain ⟨rfl, h1, h8, h20⟩ := h
  rcases h' with z | z | z
  · exact nI_nlt h1 (by omega) (z : nI k < nI 1)
  · exact nI_nlt h8 (by decide) z
  · omega
section REL
variable {V : VS} {G : GS} {M : MS}
theorem Rel.var (h : Rel V G M) {k : Nat} (k1 : 1 ≤ k) (k8 : k ≤ 8) (hlt : vN V < 20) (b1 b2 : Bool) :
    Rel (vN V + 1, va_up (vF V) (vN V + 1) (vF V (vN V) + k), va_up (vO V) (vN V) b1, va_up (vG V) (vN V) b2) G (mN M + 1, va_up (mP M) (mN M) k, va_up (mO M) (mN M) b1, va_up (mG M) (mN M) b2, mK M, mD M, mF M, mR M, mM M, mX M, mY M) := by
  obtain ⟨hV, hn, hG, hM, hN, hK, hvv, hp⟩ := h
  have fo : ∀ j, j ≤ vN V → va_up (vF V) (vN V + 1) (vF V (vN V) + k) j = vF V j := fun j hj => va_up_ne _ _ (by omega)
  have fn : va_up (vF V) (vN V + 1) (vF V (vN V) + k) (vN V + 1) = vF V (vN V) + k := va_up_self _ _ _
  refine ⟨⟨?_, ?_, ?_⟩, hn, ?_, ⟨?_, hM.2.1, ?_, ?_⟩, ?_, hK, ?_, hp⟩
  · show vN V + 1 ≤ 20; omega
  · show va_up (vF V) (vN V + 1) (vF V (vN V) + k) 0 = 0
    rw [fo 0 (Nat.zero_le _)]; exact hV.2.1
  · intro j hj
    have hj : j < vN V + 1 := hj
    show va_up (vF V) (vN V + 1) (vF V (vN V) + k) j + 1 ≤ va_up (vF V) (vN V + 1) (vF V (vN V) + k) (j + 1) ∧ va_up (vF V) (vN V + 1) (vF V (vN V) + k) (j + 1) ≤ va_up (vF V) (vN V + 1) (vF V (vN V) + k) j + 8
    by_cases e : j = vN V
    · subst e; rw [fn, fo _ (Nat.le_refl _)]; omega
    · rw [fo j (by omega), fo (j + 1) (by omega)]; exact hV.2.2 j (by omega)
  · intro q hq
    obtain ⟨h1, h2⟩ := hG q hq
    refine ⟨h1, h2.imp id (fun z => ?_)⟩
    show gO G q < vN V + 1 ∧ va_up (vF V) (vN V + 1) (vF V (vN V) + k) (gO G q) + gP G q + gC G q ≤ va_up (vF V) (vN V + 1) (vF V (vN V) + k) (gO G q + 1)
    rw [fo (gO G q) (by omega), fo (gO G q + 1) (by omega)]
    exact ⟨by omega, z.2⟩
  · show mN M + 1 ≤ 20; omega
  · intro j hj
    have hj : j < mN M + 1 := hj
    show 1 ≤ va_up (mP M) (mN M) k j ∧ va_up (mP M) (mN M) k j ≤ 8
    by_cases e : j = mN M
    · subst e; rw [va_up_self]; exact ⟨k1, k8⟩
    · rw [va_up_ne _ _ e]; exact hM.2.2.1 j (by omega)
  · intro q hq
    obtain ⟨h1, h2⟩ := hM.2.2.2 q hq
    refine ⟨h1, h2.imp id (fun ⟨z1, v, a, z2, z3, z4, z5, z6⟩ => ⟨z1, v, a, ?_, z3, z4, z5, ?_⟩)⟩
    · show v < mN M + 1; omega
    · show a + mM M q ≤ va_up (mP M) (mN M) k v
      rw [va_up_ne _ _ (by omega)]; exact z6
  · show mN M + 1 = vN V + 1; omega
  · intro v hv
    have hv : v < vN V + 1 := hv
    show va_up (mP M) (mN M) k v = va_up (vF V) (vN V + 1) (vF V (vN V) + k) (v + 1) - va_up (vF V) (vN V + 1) (vF V (vN V) + k) v ∧ va_up (mO M) (mN M) b1 v = va_up (vO V) (vN V) b1 v ∧ va_up (mG M) (mN M) b2 v = va_up (vG V) (vN V) b2 v
    rw [hN]
    by_cases e : v = vN V
    · subst e; rw [fn, fo _ (Nat.le_refl _), va_up_self, va_up_self, va_up_self, va_up_self, va_up_self]
      exact ⟨by omega, rfl, rfl⟩
    · rw [fo v (by omega), fo (v + 1) (by omega), va_up_ne _ _ e, va_up_ne _ _ e, va_up_ne _ _ e, va_up_ne _ _ e, va_up_ne _ _ e]
      exact hvv v (by omega)
theorem Rel.okQi (h : Rel V G M) {d v pa mn : Int32} {dn vn a b : Nat} : okQ (vN V) (fun j => vF V (j + 1) - vF V j) d v pa mn dn vn a b ↔ okQ (mN M) (mP M) d v pa mn dn vn a b := by
  unfold okQ
  rw [h.2.2.2.2.1]
  constructor
  · rintro (z | ⟨z1, z2, z3, z4, z5, z6⟩)
    · exact Or.inl z
    · exact Or.inr ⟨z1, z2, z3, z4, z5, by rw [(h.2.2.2.2.2.2.1 vn z5).1]; exact z6⟩
  · rintro (z | ⟨z1, z2, z3, z4, z5, z6⟩)
    · exact Or.inl z
    · exact Or.inr ⟨z1, z2, z3, z4, z5, by rw [(h.2.2.2.2.2.2.1 vn z5).1] at z6; exact z6⟩
theorem Rel.okPi (h : Rel V G M) {d v pa mn : Int32} : okP (vN V) (fun j => vF V (j + 1) - vF V j) d v pa mn ↔ okP (mN M) (mP M) d v pa mn :=
  ⟨fun ⟨dn, vn, a, b, z⟩ => ⟨dn, vn, a, b, h.okQi.mp z⟩, fun ⟨dn, vn, a, b, z⟩ => ⟨dn, vn, a, b, h.okQi.mpr z⟩⟩
theorem okQ_un {nv : Nat} {pt : Nat → Nat} {d v pa mn : Int32} {dn vn a b dn' vn' a' b' : Nat} (hn : nv ≤ 20) (hp : ∀ j, j < nv → pt j ≤ 8) (h : okQ nv pt d v pa mn dn vn a b) (h' : okQ nv pt d v pa mn dn' vn' a' b') : dn = dn' ∧ vn = vn' ∧ a = a' ∧ b = b' := by
  rcases h with ⟨rfl, rfl, rfl, rfl, rfl⟩ | ⟨z1, z2, z3, z4, z5, z6⟩
  · rcases h' with ⟨-, rfl, rfl, rfl, rfl⟩ | ⟨y1, y2, y3, -⟩
    · exact ⟨rfl, rfl, rfl, rfl⟩
    · exact absurd y1.symm (nI_ne0 (by omega) (by omega))
  · rcases h' with ⟨y0, -⟩ | ⟨y1, y2, y3, y4, y5, y6⟩
    · exact absurd (z1.symm.trans y0) (nI_ne0 (by omega) (by omega))
    · have e1 := (nI_eq (by omega) (by omega)).mp (z1.symm.trans y1)
      have e2 := (nI_eq (by omega) (by omega)).mp (z4.symm.trans y4)
      subst e1; subst e2
      have h8 := hp vn z5
      refine ⟨rfl, rfl, ?_⟩
      rcases z6 with ⟨q1, q2, q3⟩ | ⟨q1, q2, q3, q4, q5⟩
      · rcases y6 with ⟨-, w2, w3⟩ | ⟨w1, -⟩
        · exact ⟨q2.trans w2.symm, q3.trans w3.symm⟩
        · omega
      · rcases y6 with ⟨w1, -⟩ | ⟨-, w2, w3, w4, w5⟩
        · omega
        · exact ⟨(nI_eq (by omega) (by omega)).mp (q2.symm.trans w2), (nI_eq (by omega) (by omega)).mp (q3.symm.trans w3)⟩
theorem Rel.point (h : Rel V G M) {d v pa mn : Int32} {dn vn a b : Nat} (hq : okQ (mN M) (mP M) d v pa mn dn vn a b) (hlt : gN G < 120) :
    Rel V (gN G + 1, va_up (gD G) (gN G) dn, va_up (gO G) (gN G) vn, va_up (gP G) (gN G) a, va_up (gC G) (gN G) b, va_up (gX G) (gN G) (nI (gN G + 1)), va_up (gY G) (gN G) (-1)) (mN M, mP M, mO M, mG M, mK M + 1, va_up (mD M) (mK M) dn, va_up (mF M) (mK M) (if dn = 0 then -1 else nI vn), va_up (mR M) (mK M) (if dn = 0 then pa else nI a), va_up (mM M) (mK M) b, va_up (mX M) (mK M) (nI (mK M + 1)), va_up (mY M) (mK M) (-1)) := by
  obtain ⟨hV, hn, hG, hM, hN, hK, hvv, hp⟩ := h
  have hcase : dn ≤ 5 ∧ (dn = 0 ∨ (1 ≤ dn ∧ vn < vN V ∧ a + b ≤ mP M vn ∧ 1 ≤ b)) := by
    rcases hq with ⟨-, rfl, -⟩ | ⟨-, z2, z3, -, z5, z6⟩
    · exact ⟨by omega, Or.inl rfl⟩
    · refine ⟨z3, Or.inr ⟨z2, by omega, ?_⟩⟩
      rcases z6 with ⟨-, rfl, rfl⟩ | ⟨-, -, -, q4, q5⟩
      · exact ⟨by omega, (hM.2.2.1 vn z5).1⟩
      · exact ⟨q5, q4⟩
  refine ⟨hV, ?_, ?_, ⟨hM.1, ?_, hM.2.2.1, ?_⟩, hN, ?_, hvv, ?_⟩
  · show gN G + 1 ≤ 120; omega
  · intro q hq9
    have hq9 : q < gN G + 1 := hq9
    show va_up (gD G) (gN G) dn q ≤ 5 ∧ (va_up (gD G) (gN G) dn q = 0 ∨ (va_up (gO G) (gN G) vn q < vN V ∧ vF V (va_up (gO G) (gN G) vn q) + va_up (gP G) (gN G) a q + va_up (gC G) (gN G) b q ≤ vF V (va_up (gO G) (gN G) vn q + 1)))
    by_cases e : q = gN G
    · subst e
      rw [va_up_self, va_up_self, va_up_self, va_up_self]
      refine ⟨hcase.1, hcase.2.imp id (fun ⟨w1, w2, w3, w4⟩ => ⟨w2, ?_⟩)⟩
      have h1 := (hvv vn w2).1
      have h2 := hV.2.2 vn w2
      omega
    · rw [va_up_ne _ _ e, va_up_ne _ _ e, va_up_ne _ _ e, va_up_ne _ _ e]
      exact hG q (by omega)
  · show mK M + 1 ≤ 120; omega
  · intro q hq9
    have hq9 : q < mK M + 1 := hq9
    show va_up (mD M) (mK M) dn q ≤ 5 ∧ ((va_up (mD M) (mK M) dn q = 0 ∧ va_up (mF M) (mK M) (if dn = 0 then -1 else nI vn) q = -1) ∨ (1 ≤ va_up (mD M) (mK M) dn q ∧ ∃ v a9, v < mN M ∧ va_up (mF M) (mK M) (if dn = 0 then -1 else nI vn) q = nI v ∧ va_up (mR M) (mK M) (if dn = 0 then pa else nI a) q = nI a9 ∧ 1 ≤ va_up (mM M) (mK M) b q ∧ a9 + va_up (mM M) (mK M) b q ≤ mP M v))
    by_cases e : q = mK M
    · subst e
      rw [va_up_self, va_up_self, va_up_self, va_up_self]
      refine ⟨hcase.1, ?_⟩
      rcases hcase.2 with z | ⟨w1, w2, w3, w4⟩
      · exact Or.inl ⟨z, by rw [if_pos z]⟩
      · exact Or.inr ⟨w1, vn, a, by omega, by rw [if_neg (by omega)], by rw [if_neg (by omega)], w4, w3⟩
    · rw [va_up_ne _ _ e, va_up_ne _ _ e, va_up_ne _ _ e, va_up_ne _ _ e]
      exact hM.2.2.2 q (by omega)
  · show mK M + 1 = gN G + 1; omega
  · intro q hq9
    have hq9 : q < gN G + 1 := hq9
    show va_up (mD M) (mK M) dn q = va_up (gD G) (gN G) dn q ∧ va_up (mX M) (mK M) (nI (mK M + 1)) q = va_up (gX G) (gN G) (nI (gN G + 1)) q ∧ va_up (mY M) (mK M) (-1) q = va_up (gY G) (gN G) (-1) q ∧ (¬ va_up (gD G) (gN G) dn q = 0 → va_up (mF M) (mK M) (if dn = 0 then -1 else nI vn) q = nI (va_up (gO G) (gN G) vn q) ∧ va_up (mR M) (mK M) (if dn = 0 then pa else nI a) q = nI (va_up (gP G) (gN G) a q) ∧ va_up (mM M) (mK M) b q = va_up (gC G) (gN G) b q)
    rw [hK]
    by_cases e : q = gN G
    · subst e
      simp only [va_up_self]
      exact ⟨trivial, trivial, trivial, fun z => ⟨by rw [if_neg z], by rw [if_neg z], trivial⟩⟩
    · simp only [va_up_ne _ _ e]
      exact hp q (by omega)
theorem Rel.next (h : Rel V G M) (j : Nat) (x y : Int32) :
    Rel V (gN G, gD G, gO G, gP G, gC G, va_up (gX G) j x, va_up (gY G) j y) (mN M, mP M, mO M, mG M, mK M, mD M, mF M, mR M, mM M, va_up (mX M) j x, va_up (mY M) j y) := by
  obtain ⟨hV, hn, hG, hM, hN, hK, hvv, hp⟩ := h
  refine ⟨hV, hn, hG, hM, hN, hK, hvv, fun q hq => ?_⟩
  obtain ⟨e1, e2, e3, e4⟩ := hp q hq
  refine ⟨e1, ?_, ?_, e4⟩
  · show va_up (mX M) j x q = va_up (gX G) j x q
    unfold va_up; split
    · rfl
    · exact e2
  · show va_up (mY M) j y q = va_up (gY G) j y q
    unfold va_up; split
    · rfl
    · exact e3
theorem Rel.clear (h : Rel V G M) : Rel V (0, gD G, gO G, gP G, gC G, gX G, gY G) (mN M, mP M, mO M, mG M, 0, mD M, mF M, mR M, mM M, mX M, mY M) := by
  obtain ⟨hV, hn, hG, hM, hN, hK, hvv, hp⟩ := h
  exact ⟨hV, Nat.zero_le _, fun q hq => absurd hq (Nat.not_lt_zero _), ⟨hM.1, Nat.zero_le _, hM.2.2.1, fun q hq => absurd hq (Nat.not_lt_zero _)⟩, hN, rfl, hvv, fun q hq => absurd hq (Nat.not_lt_zero _)⟩
end REL
end
section
/-! THE CLAIM OUT OF ONE WALK OF THE LAW'S BODY. Your part is whole_start (and what it stands on); all else here is the same for every law, but numbers. -/
def R_law : String := "PartsFlowLaw"
def lw_P (b : Addr) (xs : List Int32) (args : Array Value) (s : State) : Prop := args = #[.ref b] ∧ s.IntsAt b xs ∧ xs.length ≤ 2560 ∧ (Jvm.Cond.and given_1 narrow_1).before args s = true
def lw_Q (_ : Array Value) (s : State) (o : Outcome) (t : State) : Prop := o = .returned (some (.int 1)) ∧ Framed s o t [] 926428 6322963
def lw_Z (below : List Frame) (a : Array Value) (s : State) : State → Prop := fun t => ∃ o, t.status = .running ∧ Ended t below o ∧ lw_Q a s o t
/-- the law's own end, with 1 on the stack, nothing written that was there before, its room as the claim has it -/
theorem lw_ret {p : Program} {l : Launch} {e : Env} {s : State} {m : MethodId} {below : List Frame} {meth : Method} {c : Code} {b : Nat} (hx : p.tables.exec = Jvm.exec) (hb : c.code = code) (hr : meth.sig.returnType = ret) (hlocks : meth.locks = false) {pc : Nat} {H : Heap} {ls : Array Slot} (hdg : decode code pc = .ok (.ireturn, 1)) : W p l e room_1 s m #[Value.ref b] below meth c H [] 926428 6322963 (lw_Z below #[Value.ref b] s) (F0 m pc ls [.int 1]) := by
  intro T hT X
  obtain ⟨fs, hret, hrun, hended, hW, hframe⟩ := X.leave (v := some (.int 1)) (hlocks := hlocks) (fun h => by rw [hr] at h; cases h)
  have hmeth' : T.vm.method? m = some meth := X.method'
  refine ⟨T.setFrames fs, ?_, .returned (some (.int 1)), hrun, hended, rfl, ⟨_, rfl⟩, hW, hframe⟩
  jvm_step X.here [X.here.top, hx, hb, hdg, hmeth', hr, ret, narrow_b1]
  (try refine ⟨rfl, ?_⟩); (try refine ⟨rfl, ?_⟩)
  first | (intro acts; rw [hret _ acts rfl rfl rfl]) | rw [hret _ _ rfl rfl rfl]
  exact Steps.refl _
/-- what holds at the law's entry: the machine, the code, the tables' words (any of lw_tbl by 'hts w (by decide +kernel)'), the script of L ints xs at the cell b, what the Statement gives of the start (any of its parts by flat_of_before) -/
def lw_At (p : Program) (s : State) (m : MethodId) (meth : Method) (c : Code) (b L : Nat) (xs : Nat → Int32) : Prop :=
  p.tables.exec = Jvm.exec ∧ c.code = code ∧ meth.sig.returnType = ret ∧ c.maxLocals = 4 ∧ s.vm.findClass R_law = some m.cls ∧ (∀ w ∈ lw_tbl, w.before #[Value.ref b] s = true) ∧ va_X b L xs s s.heap ∧ b < s.heap.size ∧ meth.locks = false ∧ (Jvm.Cond.and given_1 narrow_1).before #[Value.ref b] s = true
/-! rows for the law: a call of a part of the world, the script -/
section RL
variable {p : Program} {l : Launch} {e : Env} {R : Room} {s : State} {m : MethodId} {args : Array Value} {below : List Frame} {meth : Method} {c : Code} {H : Heap} {locs : List Loc} {cells slots : Nat} {Q : State → Prop}
variable {cc : ByteArray} {nL : Nat} {own : String} {D : va_G} {cA : Nat → ClassId} {A : Nat → Prop} {w1 w2 : va_W} {pc : Nat} {ls : Array Slot} {rest : List Value} {a : Nat}
theorem Hp.swap (h : Hp A s D (w1 ++ w2) H locs) : Hp A s D (w2 ++ w1) H locs := ⟨va_P.swap (a := []) (b := w1) (c := w2) h.1, va_D.swap (a := []) (b := w1) (c := w2) h.2.1, h.2.2.1, h.2.2.2⟩
theorem ap_at {k : Nat} {q : Nat × va_E} (h : w2[k]? = some q) : (w1 ++ w2)[w1.length + k]? = some q := by rw [List.getElem?_append_right (by omega), Nat.add_sub_cancel_left]; exact h
theorem Hp.p2 (h : Hp A s D (w1 ++ w2) H locs) : va_P D classes w2 H := fun k q hq => h.1 _ q (ap_at hq)
theorem Hp.p1 (h : Hp A s D (w1 ++ w2) H locs) : va_P D classes w1 H := fun k q hq => h.1 k q (ap_get hq)
theorem Hp.d2 (h : Hp A s D (w1 ++ w2) H locs) : va_D A w2 := ⟨fun i j p q hp hq e => by have := h.2.1.1 _ _ p q (ap_at hp) (ap_at hq) e; omega, fun k q hq => h.2.1.2 _ q (ap_at hq)⟩
theorem Hp.d1 (h : Hp A s D (w1 ++ w2) H locs) : va_D A w1 := ⟨fun i j p q hp hq e => h.2.1.1 _ _ p q (ap_get hp) (ap_get hq) e, fun k q hq => h.2.1.2 _ q (ap_get hq)⟩
theorem Hp.out (h : Hp A s D (w1 ++ w2) H locs) (k : Nat) (q : Nat × va_E) (hq : w1[k]? = some q) : q.1 < H.size ∧ ¬ va_A w2 H.size q.1 := by
  have hlt := (h.1 k q (ap_get hq)).lt
  refine ⟨hlt, fun z => ?_⟩
  rcases z with ⟨j, e, hj⟩ | z
  · have h1 := h.2.1.1 k (w1.length + j) q (q.1, e) (ap_get hq) (ap_at hj) rfl
    have h2 := (List.getElem?_eq_some_iff.mp hq).1
    omega
  · omega
theorem Hp.free2 (h : Hp A s D (w1 ++ w2) H locs) : ∀ q, va_A w2 H.size q → A q := by
  intro q hq
  rcases hq with ⟨k, e, hk⟩ | hq
  · exact h.2.1.2 _ (q, e) (ap_at hk)
  · exact h.2.2.2 q (Nat.le_trans h.2.2.1.1 hq)
theorem Hp.back {u : va_W} {H1 : Heap} {locs1 : List Loc} (h : Hp A s D (w1 ++ w2) H locs) (hk : ∀ q : Nat, q < H.size → ¬ va_A w2 H.size q → H1[q]? = H[q]?) (hP : va_P D classes u H1) (hD : va_D (va_A w2 H.size) u) (hS : va_S A s.heap H1 locs1) : Hp A s D (w1 ++ u) H1 locs1 := by
  refine ⟨va_P.app (h.p1.kept (fun k q hq => hk q.1 (h.out k q hq).1 (h.out k q hq).2)) hP, va_D.app h.d1 (hD.weaken (fun _ q _ z => h.free2 q.1 z)) (fun i j x y hx hy e => ?_), hS, h.2.2.2⟩
  exact (h.out i x hx).2 (by rw [e]; exact hD.2 j y hy)
theorem r_callR {idx ci mL n : Nat} {Cn : String} {y : MethodName} {b : ByteArray} {ret : Option FieldType} {rm : Room} {o : Nat} {As : List Value} {post : Int32 → va_W → Prop} {q : vw_C} {st : List Value} (C : Cx p s m args meth c cc nL own D cA) (h : Hp A s D (w1 ++ w2) H locs) (cv : Cvd own idx Cn y b mL ret n) (ct : CtI l y b mL ret rm D cA (.ref o :: As) w2 post)
    (q0 : Nat) {fs : List Value} (he : w2[q0]? = some (o, .inr (ci, fs))) (hc : classes[ci]? = some q) (hq : q.1 = Cn) (hn : As.length = n) (hls : ls.size = nL) (hst : st = As.reverse ++ .ref o :: rest) (hroom : (rest.map fun v => v.category).sum ≤ 8) (hrc : rm.cells = 0) (hrs : rm.slots = 0) (hR : rm.frames + 1 ≤ R.frames ∧ 8 + (mL + 11) + rm.locals ≤ R.locals) (hcs : cells ≤ R.cells ∧ slots ≤ R.slots) (hd : decode cc pc = .ok (.invokevirtual idx, 3))
    (kk : ∀ (r : Int32) (u : va_W) (H1 : Heap) (locs1 : List Loc), post r u → Hp A s D (w1 ++ u) H1 locs1 → W p l e R s m args below meth c H1 locs1 cells slots Q (F0 m (pc + 3) ls (.int r :: rest))) : W p l e R s m args below meth c H locs cells slots Q (F0 m pc ls st) := by
  subst hst
  subst hq
  have ct' := ct H.size
  rw [hrc, hrs] at ct'
  have hrec := va_recv C.2.2.2.2.2.1.1 h.p2 hc he
  refine va_calli (va_runV (As := As) (rest := rest) ⟨C.1, C.2.1, C.2.2.1, C.2.2.2.1, C.2.2.2.2.1⟩ ct' (cwV n C.2.2.2.2.1 cv.1 rfl hrc hrs cv.2 hR) ⟨Pc0.blind, hrec, fun U hU hW => ⟨rfl, by rw [hU], by rw [hU]; exact h.p2, Kx.warm hW C.2.2.2.2.2.1, h.d2.weaken (fun _ _ _ _ => trivial)⟩⟩ rfl hn hls rfl (lv_room hroom) hd ⟨hcs.1, hcs.2⟩) h.2.2.1 (fun q _ h9 => h.free2 q h9) h.free2 (fun r u t H1 locs1 ht hvm hw hB hz1 hk1 hS => ?_)
  exact kk r u H1 locs1 hw (h.back hk1 (ht ▸ hB.1) hB.2 hS)
theorem r_ctorR {idx mL : Nat} {y : MethodName} {b : ByteArray} {rm : Room} {o : Nat} {post : va_W → Prop} (C : Cx p s m args meth c cc nL own D cA) (h : Hp A s D (w1 ++ w2) H locs) (hml : Cond.methodLink own idx y ∈ BW) (hcode : Cond.code y b mL none ∈ BW) (hini : Cond.initialized y.cls ∈ BW) (hinst : Cond.instanceMethod y ∈ BW) (hy1 : y.name = "<init>") (hd9 : y.cls ≠ "java/lang/invoke/MethodHandle" ∧ y.cls ≠ "java/lang/invoke/VarHandle" ∧ (parseMethodDescriptor y.desc).map (fun d => d.parameters.length) = some 0)
    (ct : CtV l y b mL none rm D cA [.ref o] w2 post) (hls : ls.size = nL) (hroom : (rest.map fun v => v.category).sum ≤ 8) (hR : rm.frames + 1 ≤ R.frames ∧ 8 + (mL + 11) + rm.locals ≤ R.locals) (hcs : cells + rm.cells ≤ R.cells ∧ slots + rm.slots ≤ R.slots) (hd : decode cc pc = .ok (.invokespecial idx, 3))
    (kk : ∀ (u : va_W) (H1 : Heap) (locs1 : List Loc), post u → Hp A s D (w1 ++ u) H1 locs1 → W p l e R s m args below meth c H1 locs1 (cells + rm.cells) (slots + rm.slots) Q (F0 m (pc + 3) ls rest)) : W p l e R s m args below meth c H locs cells slots Q (F0 m pc ls (.ref o :: rest)) := by
  refine va_callv (va_runI (As := []) (rest := rest) ⟨C.1, C.2.1, C.2.2.1, C.2.2.2.1, C.2.2.2.2.1⟩ (ct H.size) (cwI 0 C.2.2.2.2.1 (good_BW hcode) rfl rfl rfl (C.2.2.2.2.1 _ hini) (C.2.2.2.2.1 _ hml) (C.2.2.2.2.1 _ hinst) hy1 hd9 hR) ⟨Pc0.blind, fun U hU hW => ⟨rfl, by rw [hU], by rw [hU]; exact h.p2, Kx.warm hW C.2.2.2.2.2.1, h.d2.weaken (fun _ _ _ _ => trivial)⟩⟩ rfl rfl hls rfl (lv_room hroom) hd hcs) h.2.2.1 (fun q _ h9 => h.free2 q h9) h.free2 (fun u t H1 locs1 ht hvm hw hB hz1 hk1 hS => ?_)
  exact kk u H1 locs1 hw (h.back hk1 (ht ▸ hB.1) hB.2 hS)
theorem r_sld {ws : va_W} {b L : Nat} {xs : Nat → Int32} (hx : p.tables.exec = Jvm.exec) (hb : c.code = cc) (hX : va_X b L xs s s.heap) (hbl : b < s.heap.size) (h : Hp (fun q : Nat => s.heap.size ≤ q) s D ws H locs) {i : Int32} (j : Nat) (hj : j < L) (hi : i = nI j) (hL : L < 2 ^ 31) (hd : decode cc pc = .ok (.iaload, 1))
    (kk : W p l e R s m args below meth c H locs cells slots Q (F0 m (pc + 1) ls (.int (xs j) :: rest))) : W p l e R s m args below meth c H locs cells slots Q (F0 m pc ls (.int i :: .ref b :: rest)) := by
  subst hi
  refine va_sld hx hb hX hbl (Nat.not_le.mpr hbl) h.2.2.1 (vp_in_nI hj hL) hd ?_
  rw [nI_clamp (Nat.lt_trans hj hL)]; exact kk
theorem r_slen {ws : va_W} {b L : Nat} {xs : Nat → Int32} (hx : p.tables.exec = Jvm.exec) (hb : c.code = cc) (hX : va_X b L xs s s.heap) (hbl : b < s.heap.size) (h : Hp (fun q : Nat => s.heap.size ≤ q) s D ws H locs) (hd : decode cc pc = .ok (.arraylength, 1))
    (kk : W p l e R s m args below meth c H locs cells slots Q (F0 m (pc + 1) ls (.int (nI L) :: rest))) : W p l e R s m args below meth c H locs cells slots Q (F0 m pc ls (.ref b :: rest)) :=
  va_slen hx hb hX hbl (Nat.not_le.mpr hbl) h.2.2.1 hd kk
end RL
/-! behind two calls with the same arguments: the answers are alike, and so are the states -/
def Nxt (cA : Nat → ClassId) (ad bd : Nat → Nat) (r r2 : Int32) (u u2 : va_W) : Prop := r = r2 ∧ ∃ (V : VS) (G : GS) (K : KS) (M : MS) (T : TS), Rel V G M ∧ (kKn K = true → Knows V G K) ∧ u = wPF cA ad V G K ∧ u2 = wPM cA bd M T
def nz (x : Int32) : Bool := decide (¬ x = 0)
section NX
variable {cA : Nat → ClassId} {ad bd : Nat → Nat} {V : VS} {G : GS} {K : KS} {M : MS} {T : TS} {r r2 : Int32} {u u2 : va_W}
theorem nx_var (h : Rel V G M) (hk : kKn K = true → Knows V G K) {x : Int32} {b1 b2 : Bool}
    (h1 : (noV (vN V) x ∧ r = -1 ∧ u = wPF cA ad V G K) ∨ (∃ k, okV (vN V) x k ∧ r = nI (vN V) ∧ u = wPF cA ad (vN V + 1, va_up (vF V) (vN V + 1) (vF V (vN V) + k), va_up (vO V) (vN V) b1, va_up (vG V) (vN V) b2) G (K_kn K false)))
    (h2 : (noV (mN M) x ∧ r2 = -1 ∧ u2 = wPM cA bd M T) ∨ (∃ k, okV (mN M) x k ∧ r2 = nI (mN M) ∧ u2 = wPM cA bd (mN M + 1, va_up (mP M) (mN M) k, va_up (mO M) (mN M) b1, va_up (mG M) (mN M) b2, mK M, mD M, mF M, mR M, mM M, mX M, mY M) T)) : Nxt cA ad bd r r2 u u2 := by
  have hN := h.2.2.2.2.1
  rcases h1 with ⟨a1, rfl, rfl⟩ | ⟨k, a1, rfl, rfl⟩
  · rcases h2 with ⟨c1, rfl, rfl⟩ | ⟨k2, c1, rfl, rfl⟩
    · exact ⟨rfl, V, G, K, M, T, h, hk, rfl, rfl⟩
    · rw [hN] at c1; exact (okV_no c1 a1).elim
  · rcases h2 with ⟨c1, rfl, rfl⟩ | ⟨k2, c1, rfl, rfl⟩
    · rw [hN] at c1; exact (okV_no a1 c1).elim
    · rw [hN] at c1
      have e := okV_un a1 c1
      subst e
      exact ⟨by rw [hN], _, _, _, _, T, h.var a1.2.1 a1.2.2.1 a1.2.2.2 b1 b2, fun z => (by cases z), rfl, rfl⟩
theorem nx_point (h : Rel V G M) (hk : kKn K = true → Knows V G K) {d v pa mn : Int32}
    (h1 : (¬ (okP (vN V) (fun j => vF V (j + 1) - vF V j) d v pa mn ∧ gN G < 120) ∧ r = -1 ∧ u = wPF cA ad V G K) ∨ (∃ dn vn a b, okQ (vN V) (fun j => vF V (j + 1) - vF V j) d v pa mn dn vn a b ∧ gN G < 120 ∧ r = nI (gN G) ∧ u = wPF cA ad V (gN G + 1, va_up (gD G) (gN G) dn, va_up (gO G) (gN G) vn, va_up (gP G) (gN G) a, va_up (gC G) (gN G) b, va_up (gX G) (gN G) (nI (gN G + 1)), va_up (gY G) (gN G) (-1)) (K_kn K false)))
    (h2 : (¬ (okP (mN M) (mP M) d v pa mn ∧ mK M < 120) ∧ r2 = -1 ∧ u2 = wPM cA bd M T) ∨ (∃ dn vn a b, okQ (mN M) (mP M) d v pa mn dn vn a b ∧ mK M < 120 ∧ r2 = nI (mK M) ∧ u2 = wPM cA bd (mN M, mP M, mO M, mG M, mK M + 1, va_up (mD M) (mK M) dn, va_up (mF M) (mK M) (if dn = 0 then -1 else nI vn), va_up (mR M) (mK M) (if dn = 0 then pa else nI a), va_up (mM M) (mK M) b, va_up (mX M) (mK M) (nI (mK M + 1)), va_up (mY M) (mK M) (-1)) T)) : Nxt cA ad bd r r2 u u2 := by
  have hK := h.2.2.2.2.2.1
  have hM := h.2.2.2.1
  rcases h1 with ⟨a1, rfl, rfl⟩ | ⟨dn, vn, a, b, a1, a2, rfl, rfl⟩
  · rcases h2 with ⟨c1, rfl, rfl⟩ | ⟨dn', vn', a', b', c1, c2, rfl, rfl⟩
    · exact ⟨rfl, V, G, K, M, T, h, hk, rfl, rfl⟩
    · exact absurd ⟨⟨dn', vn', a', b', h.okQi.mpr c1⟩, by omega⟩ a1
  · rcases h2 with ⟨c1, rfl, rfl⟩ | ⟨dn', vn', a', b', c1, c2, rfl, rfl⟩
    · exact absurd ⟨⟨dn, vn, a, b, h.okQi.mp a1⟩, by omega⟩ c1
    · obtain ⟨rfl, rfl, rfl, rfl⟩ := okQ_un hM.1 (fun j hj => (hM.2.2.1 j hj).2) (h.okQi.mp a1) c1
      exact ⟨by rw [hK], _, _, _, _, T, h.point c1 a2, fun z => (by cases z), rfl, rfl⟩
theorem nx_next (h : Rel V G M) (hk : kKn K = true → Knows V G K) {q x y : Int32}
    (h1 : (¬ (isN (gN G) q = true ∧ okX x ∧ okX y) ∧ r = bI false ∧ u = wPF cA ad V G K) ∨ (∃ j, j < gN G ∧ q = nI j ∧ okX x ∧ okX y ∧ r = bI true ∧ u = wPF cA ad V (gN G, gD G, gO G, gP G, gC G, va_up (gX G) j x, va_up (gY G) j y) (K_kn K false)))
    (h2 : (¬ (isN (mK M) q = true ∧ okX x ∧ okX y) ∧ r2 = bI false ∧ u2 = wPM cA bd M T) ∨ (∃ j, j < mK M ∧ q = nI j ∧ okX x ∧ okX y ∧ r2 = bI true ∧ u2 = wPM cA bd (mN M, mP M, mO M, mG M, mK M, mD M, mF M, mR M, mM M, va_up (mX M) j x, va_up (mY M) j y) T)) : Nxt cA ad bd r r2 u u2 := by
  have hK := h.2.2.2.2.2.1
  have hn := h.2.1
  rcases h1 with ⟨a1, rfl, rfl⟩ | ⟨j, a1, a2, a3, a4, rfl, rfl⟩
  · rcases h2 with ⟨c1, rfl, rfl⟩ | ⟨j2, c1, c2, c3, c4, rfl, rfl⟩
    · exact ⟨rfl, V, G, K, M, T, h, hk, rfl, rfl⟩
    · exact absurd ⟨by rw [c2]; exact isN_nI (by omega) (by omega), c3, c4⟩ a1
  · rcases h2 with ⟨c1, rfl, rfl⟩ | ⟨j2, c1, c2, c3, c4, rfl, rfl⟩
    · exact absurd ⟨by rw [a2]; exact isN_nI (by omega) (by omega), a3, a4⟩ c1
    · have e := (nI_eq (by omega) (by omega)).mp (a2.symm.trans c2)
      subst e
      exact ⟨rfl, _, _, _, _, T, h.next j x y, fun z => (by cases z), rfl, rfl⟩
theorem nx_clear (h : Rel V G M) (h1 : r = nI (gN G) ∧ u = wPF cA ad V (0, gD G, gO G, gP G, gC G, gX G, gY G) (K_kn K false)) (h2 : r2 = nI (mK M) ∧ u2 = wPM cA bd (mN M, mP M, mO M, mG M, 0, mD M, mF M, mR M, mM M, mX M, mY M) T) : Nxt cA ad bd r r2 u u2 := by
  obtain ⟨rfl, rfl⟩ := h1
  obtain ⟨rfl, rfl⟩ := h2
  exact ⟨by rw [h.2.2.2.2.2.1], _, _, _, _, T, h.clear, fun z => (by cases z), rfl, rfl⟩
theorem nx_ask (h : Rel V G M) {a1 a2 : Int32} (ha : a1 = a2) (h1 : r = a1 ∧ ∃ K', (kKn K' = true → Knows V G K') ∧ u = wPF cA ad V G K') (h2 : r2 = a2 ∧ ∃ T', u2 = wPM cA bd M T') : Nxt cA ad bd r r2 u u2 := by
  obtain ⟨rfl, K', hk, rfl⟩ := h1
  obtain ⟨rfl, T', rfl⟩ := h2
  exact ⟨ha, V, G, K', M, T', h, hk, rfl, rfl⟩
end NX
end
section
/-! the law's loop, and its entry -/
set_option maxHeartbeats 4000000 in
set_option maxRecDepth 100000 in
theorem law_loop {p : Program} {l : Launch} {e : Env} {s : State} {m : MethodId} {below : List Frame} {meth : Method} {c : Code} {D : va_G} {cA : Nat → ClassId} {ad bd : Nat → Nat} {b L : Nat} {xs : Nat → Int32} (hL : L ≤ 2560) (C : Cx p s m #[Value.ref b] meth c b_law_law 4 R_law D cA) (hr : meth.sig.returnType = ret) (hX : va_X b L xs s s.heap) (hbl : b < s.heap.size)
    {H : Heap} {locs : List Loc} {ls : Array Slot} {V : VS} {G : GS} {K : KS} {M : MS} {T : TS} (hrel : Rel V G M) (hkn : kKn K = true → Knows V G K) (h : Hp (fun q : Nat => s.heap.size ≤ q) s D (wPM cA bd M T ++ wPF cA ad V G K) H locs) (hl : lv_has ls 4 [(3, .int (nI 0)), (2, .ref (bd 0)), (1, .ref (ad 0)), (0, .ref b)]) :
    W p l e room_1 s m #[Value.ref b] below meth c H locs 926428 6322963 (lw_Z below #[Value.ref b] s) (F0 m 18 ls []) := by
  obtain ⟨hx, hb, hml, hown, hts, hK, hlk⟩ := id C
  refine w_loop (σ := Nat × VS × GS × KS × MS × TS) 18 (fun z => L - z.1) (fun z H locs ls => z.1 ≤ L ∧ Rel z.2.1 z.2.2.1 z.2.2.2.2.1 ∧ (kKn z.2.2.2.1 = true → Knows z.2.1 z.2.2.1 z.2.2.2.1) ∧ Hp (fun q : Nat => s.heap.size ≤ q) s D (wPM cA bd z.2.2.2.2.1 z.2.2.2.2.2 ++ wPF cA ad z.2.1 z.2.2.1 z.2.2.2.1) H locs ∧ lv_has ls 4 [(3, .int (nI z.1)), (2, .ref (bd 0)), (1, .ref (ad 0)), (0, .ref b)]) ?_ (0, V, G, K, M, T) ⟨Nat.zero_le _, hrel, hkn, h, hl⟩
  clear hrel hkn h hl
  intro ⟨i, V, G, K, M, T⟩ H locs ls ⟨hi, hrel, hkn, h, hl⟩ ih
  dsimp only at hi hrel hkn h hl ih
  have hPFI : PFI V G K := ⟨hrel.1, hrel.2.1, hrel.2.2.1, hkn⟩
  refine lv_iload_n hx hb d_law_law_18 rfl (lv_at hl 0 rfl) ?_
  refine lv_aload_n hx hb d_law_law_19 rfl (lv_at hl 3 rfl) ?_
  refine r_slen hx hb hX hbl h d_law_law_20 ?_
  refine lv_iconst (v := nI 5) hx hb d_law_law_21 (by decide) ?_
  refine lv_isub hx hb d_law_law_22 ?_
  refine lv_icmp_gt (tgt := 409) hx hb d_law_law_23 (by decide) (fun c1 => ?_) (fun c1 => ?_)
  · refine lv_iconst (v := 1) hx hb d_law_law_409 (by decide) ?_
    refine va_forget (fun q hq => h.2.2.1.2.2 q hq) ?_
    exact lw_ret hx hb hr hlk d_law_law_410
  · have hi5 : i + 5 ≤ L := by
      rcases Nat.lt_or_ge L (i + 5) with z | z
      · exact absurd (Int32.lt_iff_toInt_lt.mpr (by rw [pk_sub_toInt (by omega) (by omega), nI_toInt (by omega)]; omega)) c1
      · exact z
    refine lv_aload_n hx hb d_law_law_26 rfl (lv_at hl 3 rfl) ?_
    refine lv_iload_n hx hb d_law_law_27 rfl (lv_at hl 0 rfl) ?_
    refine r_sld hx hb hX hbl h (i) (by omega) rfl (by omega) d_law_law_28 ?_
    refine lv_bipush (v := nI 15) hx hb d_law_law_29 (by decide) ?_
    refine lv_iand hx hb d_law_law_31 ?_
    obtain ⟨j, hj, ej⟩ := pk_andE (xs i) (m := nI 15) 4 (by decide)
    refine w_i (nI j) (ej) ?_
    have hjc : j = 0 ∨ j = 1 ∨ j = 2 ∨ j = 3 ∨ j = 4 ∨ j = 5 ∨ j = 6 ∨ j = 7 ∨ j = 8 ∨ 8 < j := by omega
    rcases hjc with rfl | rfl | rfl | rfl | rfl | rfl | rfl | rfl | rfl | hj8
    · refine lv_tableIn (off := 52) (tgt := 84) hx hb d_law_law_32 (by decide) (by decide) (by rfl) (by decide) ?_
      refine lv_aload_n hx hb d_law_law_84 rfl (lv_at hl 2 rfl) ?_
      refine lv_aload_n hx hb d_law_law_85 rfl (lv_at hl 3 rfl) ?_
      refine lv_iload_n hx hb d_law_law_86 rfl (lv_at hl 0 rfl) ?_
      refine lv_iconst (v := 1) hx hb d_law_law_87 (by decide) ?_
      refine lv_iadd hx hb d_law_law_88 ?_
      refine w_i (nI (i + 1)) (nI_add i 1) ?_
      refine r_sld hx hb hX hbl h (i + 1) (by omega) rfl (by omega) d_law_law_89 ?_
      refine lv_aload_n hx hb d_law_law_90 rfl (lv_at hl 3 rfl) ?_
      refine lv_iload_n hx hb d_law_law_91 rfl (lv_at hl 0 rfl) ?_
      refine lv_iconst (v := nI 2) hx hb d_law_law_92 (by decide) ?_
      refine lv_iadd hx hb d_law_law_93 ?_
      refine w_i (nI (i + 2)) (nI_add i 2) ?_
      refine r_sld hx hb hX hbl h (i + 2) (by omega) rfl (by omega) d_law_law_94 ?_
      refine w_join 103 [.int (xs (i + 1)), .ref (ad 0)] (fun v => v = bI (nz (xs (i + 2)))) (fun hj9 => ?_) (fun v hv => ?_)
      · refine lv_if_eq (tgt := 102) hx hb d_law_law_95 (by decide) (fun c2 => ?_) (fun c2 => ?_)
        · refine lv_iconst (v := 0) hx hb d_law_law_102 (by decide) ?_
          exact hj9 0 (by unfold nz; rw [decide_eq_false (not_not_intro c2)]; rfl)
        · refine lv_iconst (v := 1) hx hb d_law_law_98 (by decide) ?_
          refine lv_goto (tgt := 103) hx hb d_law_law_99 (by decide) ?_
          exact hj9 1 (by unfold nz; rw [decide_eq_true c2]; rfl)
      · subst hv
        refine lv_aload_n hx hb d_law_law_103 rfl (lv_at hl 3 rfl) ?_
        refine lv_iload_n hx hb d_law_law_104 rfl (lv_at hl 0 rfl) ?_
        refine lv_iconst (v := nI 3) hx hb d_law_law_105 (by decide) ?_
        refine lv_iadd hx hb d_law_law_106 ?_
        refine w_i (nI (i + 3)) (nI_add i 3) ?_
        refine r_sld hx hb hX hbl h (i + 3) (by omega) rfl (by omega) d_law_law_107 ?_
        refine w_join 116 [.int (bI (nz (xs (i + 2)))), .int (xs (i + 1)), .ref (ad 0)] (fun v => v = bI (nz (xs (i + 3)))) (fun hj9 => ?_) (fun v hv => ?_)
        · refine lv_if_eq (tgt := 115) hx hb d_law_law_108 (by decide) (fun c2 => ?_) (fun c2 => ?_)
          · refine lv_iconst (v := 0) hx hb d_law_law_115 (by decide) ?_
            exact hj9 0 (by unfold nz; rw [decide_eq_false (not_not_intro c2)]; rfl)
          · refine lv_iconst (v := 1) hx hb d_law_law_111 (by decide) ?_
            refine lv_goto (tgt := 116) hx hb d_law_law_112 (by decide) ?_
            exact hj9 1 (by unfold nz; rw [decide_eq_true c2]; rfl)
        · subst hv
          refine r_callR (As := [.int (xs (i + 1)), .int (bI (nz (xs (i + 2)))), .int (bI (nz (xs (i + 3))))]) (rest := []) C h cv_law_13 (c_PF_variable l D cA ad V G K (xs (i + 1)) (nz (xs (i + 2))) (nz (xs (i + 3))) hrel.1.1) 0 rfl rfl rfl rfl hl.1 rfl (Nat.le_of_ble_eq_true rfl) rfl rfl ⟨Nat.le_of_ble_eq_true rfl, Nat.le_of_ble_eq_true rfl⟩ ⟨Nat.le_of_ble_eq_true rfl, Nat.le_of_ble_eq_true rfl⟩ d_law_law_116 (fun r1 u1 H locs hq1 h => ?_)
          have h := h.swap
          refine lv_aload_n hx hb d_law_law_119 rfl (lv_at hl 1 rfl) ?_
          refine lv_aload_n hx hb d_law_law_120 rfl (lv_at hl 3 rfl) ?_
          refine lv_iload_n hx hb d_law_law_121 rfl (lv_at hl 0 rfl) ?_
          refine lv_iconst (v := 1) hx hb d_law_law_122 (by decide) ?_
          refine lv_iadd hx hb d_law_law_123 ?_
          refine w_i (nI (i + 1)) (nI_add i 1) ?_
          refine r_sld hx hb hX hbl h (i + 1) (by omega) rfl (by omega) d_law_law_124 ?_
          refine lv_aload_n hx hb d_law_law_125 rfl (lv_at hl 3 rfl) ?_
          refine lv_iload_n hx hb d_law_law_126 rfl (lv_at hl 0 rfl) ?_
          refine lv_iconst (v := nI 2) hx hb d_law_law_127 (by decide) ?_
          refine lv_iadd hx hb d_law_law_128 ?_
          refine w_i (nI (i + 2)) (nI_add i 2) ?_
          refine r_sld hx hb hX hbl h (i + 2) (by omega) rfl (by omega) d_law_law_129 ?_
          refine w_join 138 [.int (xs (i + 1)), .ref (bd 0), .int r1] (fun v => v = bI (nz (xs (i + 2)))) (fun hj9 => ?_) (fun v hv => ?_)
          · refine lv_if_eq (tgt := 137) hx hb d_law_law_130 (by decide) (fun c2 => ?_) (fun c2 => ?_)
            · refine lv_iconst (v := 0) hx hb d_law_law_137 (by decide) ?_
              exact hj9 0 (by unfold nz; rw [decide_eq_false (not_not_intro c2)]; rfl)
            · refine lv_iconst (v := 1) hx hb d_law_law_133 (by decide) ?_
              refine lv_goto (tgt := 138) hx hb d_law_law_134 (by decide) ?_
              exact hj9 1 (by unfold nz; rw [decide_eq_true c2]; rfl)
          · subst hv
            refine lv_aload_n hx hb d_law_law_138 rfl (lv_at hl 3 rfl) ?_
            refine lv_iload_n hx hb d_law_law_139 rfl (lv_at hl 0 rfl) ?_
            refine lv_iconst (v := nI 3) hx hb d_law_law_140 (by decide) ?_
            refine lv_iadd hx hb d_law_law_141 ?_
            refine w_i (nI (i + 3)) (nI_add i 3) ?_
            refine r_sld hx hb hX hbl h (i + 3) (by omega) rfl (by omega) d_law_law_142 ?_
            refine w_join 151 [.int (bI (nz (xs (i + 2)))), .int (xs (i + 1)), .ref (bd 0), .int r1] (fun v => v = bI (nz (xs (i + 3)))) (fun hj9 => ?_) (fun v hv => ?_)
            · refine lv_if_eq (tgt := 150) hx hb d_law_law_143 (by decide) (fun c2 => ?_) (fun c2 => ?_)
              · refine lv_iconst (v := 0) hx hb d_law_law_150 (by decide) ?_
                exact hj9 0 (by unfold nz; rw [decide_eq_false (not_not_intro c2)]; rfl)
              · refine lv_iconst (v := 1) hx hb d_law_law_146 (by decide) ?_
                refine lv_goto (tgt := 151) hx hb d_law_law_147 (by decide) ?_
                exact hj9 1 (by unfold nz; rw [decide_eq_true c2]; rfl)
            · subst hv
              refine r_callR (As := [.int (xs (i + 1)), .int (bI (nz (xs (i + 2)))), .int (bI (nz (xs (i + 3))))]) (rest := [.int r1]) C h cv_law_17 (c_PM_variable l D cA bd M T (xs (i + 1)) (nz (xs (i + 2))) (nz (xs (i + 3))) hrel.2.2.2.1.1) 0 rfl rfl rfl rfl hl.1 rfl (Nat.le_of_ble_eq_true rfl) rfl rfl ⟨Nat.le_of_ble_eq_true rfl, Nat.le_of_ble_eq_true rfl⟩ ⟨Nat.le_of_ble_eq_true rfl, Nat.le_of_ble_eq_true rfl⟩ d_law_law_151 (fun r2 u2 H locs hq2 h => ?_)
              have h := h.swap
              obtain ⟨er, V2, G2, K2, M2, T2, hrel2, hkn2, rfl, rfl⟩ : Nxt cA ad bd r1 r2 u1 u2 := nx_var hrel hkn hq1 hq2
              refine lv_icmp_eq (tgt := 403) hx hb d_law_law_154 (by decide) (fun _ => ?_) (fun q => absurd (er) q)
              refine lv_iinc (v := nI (i + 5)) (lv' := [(3, .int (nI (i + 5))), (2, .ref (bd 0)), (1, .ref (ad 0)), (0, .ref b)]) hx hb d_law_law_403 hl (k := 0) rfl (by rw [show Int32.ofInt 5 = nI 5 by decide]; exact nI_add i 5) (by decide) rfl (fun ls hl => ?_)
              refine lv_goto (tgt := 18) hx hb d_law_law_406 (by decide) ?_
              exact ih (i + 5, V2, G2, K2, M2, T2) H locs ls ⟨hi5, hrel2, hkn2, h, hl⟩ (by show L - (i + 5) < L - i; omega)
    · refine lv_tableIn (off := 127) (tgt := 159) hx hb d_law_law_32 (by decide) (by decide) (by rfl) (by decide) ?_
      refine lv_aload_n hx hb d_law_law_159 rfl (lv_at hl 2 rfl) ?_
      refine lv_aload_n hx hb d_law_law_160 rfl (lv_at hl 3 rfl) ?_
      refine lv_iload_n hx hb d_law_law_161 rfl (lv_at hl 0 rfl) ?_
      refine lv_iconst (v := 1) hx hb d_law_law_162 (by decide) ?_
      refine lv_iadd hx hb d_law_law_163 ?_
      refine w_i (nI (i + 1)) (nI_add i 1) ?_
      refine r_sld hx hb hX hbl h (i + 1) (by omega) rfl (by omega) d_law_law_164 ?_
      refine lv_aload_n hx hb d_law_law_165 rfl (lv_at hl 3 rfl) ?_
      refine lv_iload_n hx hb d_law_law_166 rfl (lv_at hl 0 rfl) ?_
      refine lv_iconst (v := nI 2) hx hb d_law_law_167 (by decide) ?_
      refine lv_iadd hx hb d_law_law_168 ?_
      refine w_i (nI (i + 2)) (nI_add i 2) ?_
      refine r_sld hx hb hX hbl h (i + 2) (by omega) rfl (by omega) d_law_law_169 ?_
      refine lv_aload_n hx hb d_law_law_170 rfl (lv_at hl 3 rfl) ?_
      refine lv_iload_n hx hb d_law_law_171 rfl (lv_at hl 0 rfl) ?_
      refine lv_iconst (v := nI 3) hx hb d_law_law_172 (by decide) ?_
      refine lv_iadd hx hb d_law_law_173 ?_
      refine w_i (nI (i + 3)) (nI_add i 3) ?_
      refine r_sld hx hb hX hbl h (i + 3) (by omega) rfl (by omega) d_law_law_174 ?_
      refine lv_aload_n hx hb d_law_law_175 rfl (lv_at hl 3 rfl) ?_
      refine lv_iload_n hx hb d_law_law_176 rfl (lv_at hl 0 rfl) ?_
      refine lv_iconst (v := nI 4) hx hb d_law_law_177 (by decide) ?_
      refine lv_iadd hx hb d_law_law_178 ?_
      refine w_i (nI (i + 4)) (nI_add i 4) ?_
      refine r_sld hx hb hX hbl h (i + 4) (by omega) rfl (by omega) d_law_law_179 ?_
      refine r_callR (As := [.int (xs (i + 1)), .int (xs (i + 2)), .int (xs (i + 3)), .int (xs (i + 4))]) (rest := []) C h cv_law_18 (c_PF_point l D cA ad V G K (xs (i + 1)) (xs (i + 2)) (xs (i + 3)) (xs (i + 4)) hrel.1 hrel.2.1) 0 rfl rfl rfl rfl hl.1 rfl (Nat.le_of_ble_eq_true rfl) rfl rfl ⟨Nat.le_of_ble_eq_true rfl, Nat.le_of_ble_eq_true rfl⟩ ⟨Nat.le_of_ble_eq_true rfl, Nat.le_of_ble_eq_true rfl⟩ d_law_law_180 (fun r1 u1 H locs hq1 h => ?_)
      have h := h.swap
      refine lv_aload_n hx hb d_law_law_183 rfl (lv_at hl 1 rfl) ?_
      refine lv_aload_n hx hb d_law_law_184 rfl (lv_at hl 3 rfl) ?_
      refine lv_iload_n hx hb d_law_law_185 rfl (lv_at hl 0 rfl) ?_
      refine lv_iconst (v := 1) hx hb d_law_law_186 (by decide) ?_
      refine lv_iadd hx hb d_law_law_187 ?_
      refine w_i (nI (i + 1)) (nI_add i 1) ?_
      refine r_sld hx hb hX hbl h (i + 1) (by omega) rfl (by omega) d_law_law_188 ?_
      refine lv_aload_n hx hb d_law_law_189 rfl (lv_at hl 3 rfl) ?_
      refine lv_iload_n hx hb d_law_law_190 rfl (lv_at hl 0 rfl) ?_
      refine lv_iconst (v := nI 2) hx hb d_law_law_191 (by decide) ?_
      refine lv_iadd hx hb d_law_law_192 ?_
      refine w_i (nI (i + 2)) (nI_add i 2) ?_
      refine r_sld hx hb hX hbl h (i + 2) (by omega) rfl (by omega) d_law_law_193 ?_
      refine lv_aload_n hx hb d_law_law_194 rfl (lv_at hl 3 rfl) ?_
      refine lv_iload_n hx hb d_law_law_195 rfl (lv_at hl 0 rfl) ?_
      refine lv_iconst (v := nI 3) hx hb d_law_law_196 (by decide) ?_
      refine lv_iadd hx hb d_law_law_197 ?_
      refine w_i (nI (i + 3)) (nI_add i 3) ?_
      refine r_sld hx hb hX hbl h (i + 3) (by omega) rfl (by omega) d_law_law_198 ?_
      refine lv_aload_n hx hb d_law_law_199 rfl (lv_at hl 3 rfl) ?_
      refine lv_iload_n hx hb d_law_law_200 rfl (lv_at hl 0 rfl) ?_
      refine lv_iconst (v := nI 4) hx hb d_law_law_201 (by decide) ?_
      refine lv_iadd hx hb d_law_law_202 ?_
      refine w_i (nI (i + 4)) (nI_add i 4) ?_
      refine r_sld hx hb hX hbl h (i + 4) (by omega) rfl (by omega) d_law_law_203 ?_
      refine r_callR (As := [.int (xs (i + 1)), .int (xs (i + 2)), .int (xs (i + 3)), .int (xs (i + 4))]) (rest := [.int r1]) C h cv_law_22 (c_PM_point l D cA bd M T (xs (i + 1)) (xs (i + 2)) (xs (i + 3)) (xs (i + 4)) hrel.2.2.2.1) 0 rfl rfl rfl rfl hl.1 rfl (Nat.le_of_ble_eq_true rfl) rfl rfl ⟨Nat.le_of_ble_eq_true rfl, Nat.le_of_ble_eq_true rfl⟩ ⟨Nat.le_of_ble_eq_true rfl, Nat.le_of_ble_eq_true rfl⟩ d_law_law_204 (fun r2 u2 H locs hq2 h => ?_)
      have h := h.swap
      obtain ⟨er, V2, G2, K2, M2, T2, hrel2, hkn2, rfl, rfl⟩ : Nxt cA ad bd r1 r2 u1 u2 := nx_point hrel hkn hq1 hq2
      refine lv_icmp_eq (tgt := 403) hx hb d_law_law_207 (by decide) (fun _ => ?_) (fun q => absurd (er) q)
      refine lv_iinc (v := nI (i + 5)) (lv' := [(3, .int (nI (i + 5))), (2, .ref (bd 0)), (1, .ref (ad 0)), (0, .ref b)]) hx hb d_law_law_403 hl (k := 0) rfl (by rw [show Int32.ofInt 5 = nI 5 by decide]; exact nI_add i 5) (by decide) rfl (fun ls hl => ?_)
      refine lv_goto (tgt := 18) hx hb d_law_law_406 (by decide) ?_
      exact ih (i + 5, V2, G2, K2, M2, T2) H locs ls ⟨hi5, hrel2, hkn2, h, hl⟩ (by show L - (i + 5) < L - i; omega)
    · refine lv_tableIn (off := 180) (tgt := 212) hx hb d_law_law_32 (by decide) (by decide) (by rfl) (by decide) ?_
      refine lv_aload_n hx hb d_law_law_212 rfl (lv_at hl 2 rfl) ?_
      refine lv_aload_n hx hb d_law_law_213 rfl (lv_at hl 3 rfl) ?_
      refine lv_iload_n hx hb d_law_law_214 rfl (lv_at hl 0 rfl) ?_
      refine lv_iconst (v := 1) hx hb d_law_law_215 (by decide) ?_
      refine lv_iadd hx hb d_law_law_216 ?_
      refine w_i (nI (i + 1)) (nI_add i 1) ?_
      refine r_sld hx hb hX hbl h (i + 1) (by omega) rfl (by omega) d_law_law_217 ?_
      refine lv_aload_n hx hb d_law_law_218 rfl (lv_at hl 3 rfl) ?_
      refine lv_iload_n hx hb d_law_law_219 rfl (lv_at hl 0 rfl) ?_
      refine lv_iconst (v := nI 2) hx hb d_law_law_220 (by decide) ?_
      refine lv_iadd hx hb d_law_law_221 ?_
      refine w_i (nI (i + 2)) (nI_add i 2) ?_
      refine r_sld hx hb hX hbl h (i + 2) (by omega) rfl (by omega) d_law_law_222 ?_
      refine lv_aload_n hx hb d_law_law_223 rfl (lv_at hl 3 rfl) ?_
      refine lv_iload_n hx hb d_law_law_224 rfl (lv_at hl 0 rfl) ?_
      refine lv_iconst (v := nI 3) hx hb d_law_law_225 (by decide) ?_
      refine lv_iadd hx hb d_law_law_226 ?_
      refine w_i (nI (i + 3)) (nI_add i 3) ?_
      refine r_sld hx hb hX hbl h (i + 3) (by omega) rfl (by omega) d_law_law_227 ?_
      refine r_callR (As := [.int (xs (i + 1)), .int (xs (i + 2)), .int (xs (i + 3))]) (rest := []) C h cv_law_23 (c_PF_next l D cA ad V G K (xs (i + 1)) (xs (i + 2)) (xs (i + 3)) hrel.2.1) 0 rfl rfl rfl rfl hl.1 rfl (Nat.le_of_ble_eq_true rfl) rfl rfl ⟨Nat.le_of_ble_eq_true rfl, Nat.le_of_ble_eq_true rfl⟩ ⟨Nat.le_of_ble_eq_true rfl, Nat.le_of_ble_eq_true rfl⟩ d_law_law_228 (fun r1 u1 H locs hq1 h => ?_)
      have h := h.swap
      refine lv_aload_n hx hb d_law_law_231 rfl (lv_at hl 1 rfl) ?_
      refine lv_aload_n hx hb d_law_law_232 rfl (lv_at hl 3 rfl) ?_
      refine lv_iload_n hx hb d_law_law_233 rfl (lv_at hl 0 rfl) ?_
      refine lv_iconst (v := 1) hx hb d_law_law_234 (by decide) ?_
      refine lv_iadd hx hb d_law_law_235 ?_
      refine w_i (nI (i + 1)) (nI_add i 1) ?_
      refine r_sld hx hb hX hbl h (i + 1) (by omega) rfl (by omega) d_law_law_236 ?_
      refine lv_aload_n hx hb d_law_law_237 rfl (lv_at hl 3 rfl) ?_
      refine lv_iload_n hx hb d_law_law_238 rfl (lv_at hl 0 rfl) ?_
      refine lv_iconst (v := nI 2) hx hb d_law_law_239 (by decide) ?_
      refine lv_iadd hx hb d_law_law_240 ?_
      refine w_i (nI (i + 2)) (nI_add i 2) ?_
      refine r_sld hx hb hX hbl h (i + 2) (by omega) rfl (by omega) d_law_law_241 ?_
      refine lv_aload_n hx hb d_law_law_242 rfl (lv_at hl 3 rfl) ?_
      refine lv_iload_n hx hb d_law_law_243 rfl (lv_at hl 0 rfl) ?_
      refine lv_iconst (v := nI 3) hx hb d_law_law_244 (by decide) ?_
      refine lv_iadd hx hb d_law_law_245 ?_
      refine w_i (nI (i + 3)) (nI_add i 3) ?_
      refine r_sld hx hb hX hbl h (i + 3) (by omega) rfl (by omega) d_law_law_246 ?_
      refine r_callR (As := [.int (xs (i + 1)), .int (xs (i + 2)), .int (xs (i + 3))]) (rest := [.int r1]) C h cv_law_27 (c_PM_next l D cA bd M T (xs (i + 1)) (xs (i + 2)) (xs (i + 3)) hrel.2.2.2.1.2.1) 0 rfl rfl rfl rfl hl.1 rfl (Nat.le_of_ble_eq_true rfl) rfl rfl ⟨Nat.le_of_ble_eq_true rfl, Nat.le_of_ble_eq_true rfl⟩ ⟨Nat.le_of_ble_eq_true rfl, Nat.le_of_ble_eq_true rfl⟩ d_law_law_247 (fun r2 u2 H locs hq2 h => ?_)
      have h := h.swap
      obtain ⟨er, V2, G2, K2, M2, T2, hrel2, hkn2, rfl, rfl⟩ : Nxt cA ad bd r1 r2 u1 u2 := nx_next hrel hkn hq1 hq2
      refine lv_icmp_eq (tgt := 403) hx hb d_law_law_250 (by decide) (fun _ => ?_) (fun q => absurd (er) q)
      refine lv_iinc (v := nI (i + 5)) (lv' := [(3, .int (nI (i + 5))), (2, .ref (bd 0)), (1, .ref (ad 0)), (0, .ref b)]) hx hb d_law_law_403 hl (k := 0) rfl (by rw [show Int32.ofInt 5 = nI 5 by decide]; exact nI_add i 5) (by decide) rfl (fun ls hl => ?_)
      refine lv_goto (tgt := 18) hx hb d_law_law_406 (by decide) ?_
      exact ih (i + 5, V2, G2, K2, M2, T2) H locs ls ⟨hi5, hrel2, hkn2, h, hl⟩ (by show L - (i + 5) < L - i; omega)
    · refine lv_tableIn (off := 223) (tgt := 255) hx hb d_law_law_32 (by decide) (by decide) (by rfl) (by decide) ?_
      refine lv_aload_n hx hb d_law_law_255 rfl (lv_at hl 2 rfl) ?_
      refine lv_aload_n hx hb d_law_law_256 rfl (lv_at hl 3 rfl) ?_
      refine lv_iload_n hx hb d_law_law_257 rfl (lv_at hl 0 rfl) ?_
      refine lv_iconst (v := 1) hx hb d_law_law_258 (by decide) ?_
      refine lv_iadd hx hb d_law_law_259 ?_
      refine w_i (nI (i + 1)) (nI_add i 1) ?_
      refine r_sld hx hb hX hbl h (i + 1) (by omega) rfl (by omega) d_law_law_260 ?_
      refine r_callR (As := [.int (xs (i + 1))]) (rest := []) C h cv_law_28 (c_PF_isReached l D cA ad V G K (xs (i + 1)) hPFI) 0 rfl rfl rfl rfl hl.1 rfl (Nat.le_of_ble_eq_true rfl) rfl rfl ⟨Nat.le_of_ble_eq_true rfl, Nat.le_of_ble_eq_true rfl⟩ ⟨Nat.le_of_ble_eq_true rfl, Nat.le_of_ble_eq_true rfl⟩ d_law_law_261 (fun r1 u1 H locs hq1 h => ?_)
      have h := h.swap
      refine lv_aload_n hx hb d_law_law_264 rfl (lv_at hl 1 rfl) ?_
      refine lv_aload_n hx hb d_law_law_265 rfl (lv_at hl 3 rfl) ?_
      refine lv_iload_n hx hb d_law_law_266 rfl (lv_at hl 0 rfl) ?_
      refine lv_iconst (v := 1) hx hb d_law_law_267 (by decide) ?_
      refine lv_iadd hx hb d_law_law_268 ?_
      refine w_i (nI (i + 1)) (nI_add i 1) ?_
      refine r_sld hx hb hX hbl h (i + 1) (by omega) rfl (by omega) d_law_law_269 ?_
      refine r_callR (As := [.int (xs (i + 1))]) (rest := [.int r1]) C h cv_law_32 (c_PM_isReached l D cA bd M T (xs (i + 1)) hrel.2.2.2.1) 0 rfl rfl rfl rfl hl.1 rfl (Nat.le_of_ble_eq_true rfl) rfl rfl ⟨Nat.le_of_ble_eq_true rfl, Nat.le_of_ble_eq_true rfl⟩ ⟨Nat.le_of_ble_eq_true rfl, Nat.le_of_ble_eq_true rfl⟩ d_law_law_270 (fun r2 u2 H locs hq2 h => ?_)
      have h := h.swap
      obtain ⟨er, V2, G2, K2, M2, T2, hrel2, hkn2, rfl, rfl⟩ : Nxt cA ad bd r1 r2 u1 u2 := nx_ask hrel (congrArg bI (hrel.reach (xs (i + 1)))) hq1 hq2
      refine lv_icmp_eq (tgt := 403) hx hb d_law_law_273 (by decide) (fun _ => ?_) (fun q => absurd (er) q)
      refine lv_iinc (v := nI (i + 5)) (lv' := [(3, .int (nI (i + 5))), (2, .ref (bd 0)), (1, .ref (ad 0)), (0, .ref b)]) hx hb d_law_law_403 hl (k := 0) rfl (by rw [show Int32.ofInt 5 = nI 5 by decide]; exact nI_add i 5) (by decide) rfl (fun ls hl => ?_)
      refine lv_goto (tgt := 18) hx hb d_law_law_406 (by decide) ?_
      exact ih (i + 5, V2, G2, K2, M2, T2) H locs ls ⟨hi5, hrel2, hkn2, h, hl⟩ (by show L - (i + 5) < L - i; omega)
    · refine lv_tableIn (off := 246) (tgt := 278) hx hb d_law_law_32 (by decide) (by decide) (by rfl) (by decide) ?_
      refine lv_aload_n hx hb d_law_law_278 rfl (lv_at hl 2 rfl) ?_
      refine lv_aload_n hx hb d_law_law_279 rfl (lv_at hl 3 rfl) ?_
      refine lv_iload_n hx hb d_law_law_280 rfl (lv_at hl 0 rfl) ?_
      refine lv_iconst (v := 1) hx hb d_law_law_281 (by decide) ?_
      refine lv_iadd hx hb d_law_law_282 ?_
      refine w_i (nI (i + 1)) (nI_add i 1) ?_
      refine r_sld hx hb hX hbl h (i + 1) (by omega) rfl (by omega) d_law_law_283 ?_
      refine lv_aload_n hx hb d_law_law_284 rfl (lv_at hl 3 rfl) ?_
      refine lv_iload_n hx hb d_law_law_285 rfl (lv_at hl 0 rfl) ?_
      refine lv_iconst (v := nI 2) hx hb d_law_law_286 (by decide) ?_
      refine lv_iadd hx hb d_law_law_287 ?_
      refine w_i (nI (i + 2)) (nI_add i 2) ?_
      refine r_sld hx hb hX hbl h (i + 2) (by omega) rfl (by omega) d_law_law_288 ?_
      refine r_callR (As := [.int (xs (i + 1)), .int (xs (i + 2))]) (rest := []) C h cv_law_33 (c_PF_without l D cA ad V G K (xs (i + 1)) (xs (i + 2)) hPFI) 0 rfl rfl rfl rfl hl.1 rfl (Nat.le_of_ble_eq_true rfl) rfl rfl ⟨Nat.le_of_ble_eq_true rfl, Nat.le_of_ble_eq_true rfl⟩ ⟨Nat.le_of_ble_eq_true rfl, Nat.le_of_ble_eq_true rfl⟩ d_law_law_289 (fun r1 u1 H locs hq1 h => ?_)
      have h := h.swap
      refine lv_aload_n hx hb d_law_law_292 rfl (lv_at hl 1 rfl) ?_
      refine lv_aload_n hx hb d_law_law_293 rfl (lv_at hl 3 rfl) ?_
      refine lv_iload_n hx hb d_law_law_294 rfl (lv_at hl 0 rfl) ?_
      refine lv_iconst (v := 1) hx hb d_law_law_295 (by decide) ?_
      refine lv_iadd hx hb d_law_law_296 ?_
      refine w_i (nI (i + 1)) (nI_add i 1) ?_
      refine r_sld hx hb hX hbl h (i + 1) (by omega) rfl (by omega) d_law_law_297 ?_
      refine lv_aload_n hx hb d_law_law_298 rfl (lv_at hl 3 rfl) ?_
      refine lv_iload_n hx hb d_law_law_299 rfl (lv_at hl 0 rfl) ?_
      refine lv_iconst (v := nI 2) hx hb d_law_law_300 (by decide) ?_
      refine lv_iadd hx hb d_law_law_301 ?_
      refine w_i (nI (i + 2)) (nI_add i 2) ?_
      refine r_sld hx hb hX hbl h (i + 2) (by omega) rfl (by omega) d_law_law_302 ?_
      refine r_callR (As := [.int (xs (i + 1)), .int (xs (i + 2))]) (rest := [.int r1]) C h cv_law_37 (c_PM_without l D cA bd M T (xs (i + 1)) (xs (i + 2)) hrel.2.2.2.1) 0 rfl rfl rfl rfl hl.1 rfl (Nat.le_of_ble_eq_true rfl) rfl rfl ⟨Nat.le_of_ble_eq_true rfl, Nat.le_of_ble_eq_true rfl⟩ ⟨Nat.le_of_ble_eq_true rfl, Nat.le_of_ble_eq_true rfl⟩ d_law_law_303 (fun r2 u2 H locs hq2 h => ?_)
      have h := h.swap
      obtain ⟨er, V2, G2, K2, M2, T2, hrel2, hkn2, rfl, rfl⟩ : Nxt cA ad bd r1 r2 u1 u2 := nx_ask hrel (hrel.bits (xs (i + 1)) (xs (i + 2)) false) hq1 hq2
      refine lv_icmp_eq (tgt := 403) hx hb d_law_law_306 (by decide) (fun _ => ?_) (fun q => absurd (er) q)
      refine lv_iinc (v := nI (i + 5)) (lv' := [(3, .int (nI (i + 5))), (2, .ref (bd 0)), (1, .ref (ad 0)), (0, .ref b)]) hx hb d_law_law_403 hl (k := 0) rfl (by rw [show Int32.ofInt 5 = nI 5 by decide]; exact nI_add i 5) (by decide) rfl (fun ls hl => ?_)
      refine lv_goto (tgt := 18) hx hb d_law_law_406 (by decide) ?_
      exact ih (i + 5, V2, G2, K2, M2, T2) H locs ls ⟨hi5, hrel2, hkn2, h, hl⟩ (by show L - (i + 5) < L - i; omega)
    · refine lv_tableIn (off := 279) (tgt := 311) hx hb d_law_law_32 (by decide) (by decide) (by rfl) (by decide) ?_
      refine lv_aload_n hx hb d_law_law_311 rfl (lv_at hl 2 rfl) ?_
      refine lv_aload_n hx hb d_law_law_312 rfl (lv_at hl 3 rfl) ?_
      refine lv_iload_n hx hb d_law_law_313 rfl (lv_at hl 0 rfl) ?_
      refine lv_iconst (v := 1) hx hb d_law_law_314 (by decide) ?_
      refine lv_iadd hx hb d_law_law_315 ?_
      refine w_i (nI (i + 1)) (nI_add i 1) ?_
      refine r_sld hx hb hX hbl h (i + 1) (by omega) rfl (by omega) d_law_law_316 ?_
      refine lv_aload_n hx hb d_law_law_317 rfl (lv_at hl 3 rfl) ?_
      refine lv_iload_n hx hb d_law_law_318 rfl (lv_at hl 0 rfl) ?_
      refine lv_iconst (v := nI 2) hx hb d_law_law_319 (by decide) ?_
      refine lv_iadd hx hb d_law_law_320 ?_
      refine w_i (nI (i + 2)) (nI_add i 2) ?_
      refine r_sld hx hb hX hbl h (i + 2) (by omega) rfl (by omega) d_law_law_321 ?_
      refine r_callR (As := [.int (xs (i + 1)), .int (xs (i + 2))]) (rest := []) C h cv_law_38 (c_PF_having l D cA ad V G K (xs (i + 1)) (xs (i + 2)) hPFI) 0 rfl rfl rfl rfl hl.1 rfl (Nat.le_of_ble_eq_true rfl) rfl rfl ⟨Nat.le_of_ble_eq_true rfl, Nat.le_of_ble_eq_true rfl⟩ ⟨Nat.le_of_ble_eq_true rfl, Nat.le_of_ble_eq_true rfl⟩ d_law_law_322 (fun r1 u1 H locs hq1 h => ?_)
      have h := h.swap
      refine lv_aload_n hx hb d_law_law_325 rfl (lv_at hl 1 rfl) ?_
      refine lv_aload_n hx hb d_law_law_326 rfl (lv_at hl 3 rfl) ?_
      refine lv_iload_n hx hb d_law_law_327 rfl (lv_at hl 0 rfl) ?_
      refine lv_iconst (v := 1) hx hb d_law_law_328 (by decide) ?_
      refine lv_iadd hx hb d_law_law_329 ?_
      refine w_i (nI (i + 1)) (nI_add i 1) ?_
      refine r_sld hx hb hX hbl h (i + 1) (by omega) rfl (by omega) d_law_law_330 ?_
      refine lv_aload_n hx hb d_law_law_331 rfl (lv_at hl 3 rfl) ?_
      refine lv_iload_n hx hb d_law_law_332 rfl (lv_at hl 0 rfl) ?_
      refine lv_iconst (v := nI 2) hx hb d_law_law_333 (by decide) ?_
      refine lv_iadd hx hb d_law_law_334 ?_
      refine w_i (nI (i + 2)) (nI_add i 2) ?_
      refine r_sld hx hb hX hbl h (i + 2) (by omega) rfl (by omega) d_law_law_335 ?_
      refine r_callR (As := [.int (xs (i + 1)), .int (xs (i + 2))]) (rest := [.int r1]) C h cv_law_41 (c_PM_having l D cA bd M T (xs (i + 1)) (xs (i + 2)) hrel.2.2.2.1) 0 rfl rfl rfl rfl hl.1 rfl (Nat.le_of_ble_eq_true rfl) rfl rfl ⟨Nat.le_of_ble_eq_true rfl, Nat.le_of_ble_eq_true rfl⟩ ⟨Nat.le_of_ble_eq_true rfl, Nat.le_of_ble_eq_true rfl⟩ d_law_law_336 (fun r2 u2 H locs hq2 h => ?_)
      have h := h.swap
      obtain ⟨er, V2, G2, K2, M2, T2, hrel2, hkn2, rfl, rfl⟩ : Nxt cA ad bd r1 r2 u1 u2 := nx_ask hrel (hrel.bits (xs (i + 1)) (xs (i + 2)) true) hq1 hq2
      refine lv_icmp_eq (tgt := 403) hx hb d_law_law_339 (by decide) (fun _ => ?_) (fun q => absurd (er) q)
      refine lv_iinc (v := nI (i + 5)) (lv' := [(3, .int (nI (i + 5))), (2, .ref (bd 0)), (1, .ref (ad 0)), (0, .ref b)]) hx hb d_law_law_403 hl (k := 0) rfl (by rw [show Int32.ofInt 5 = nI 5 by decide]; exact nI_add i 5) (by decide) rfl (fun ls hl => ?_)
      refine lv_goto (tgt := 18) hx hb d_law_law_406 (by decide) ?_
      exact ih (i + 5, V2, G2, K2, M2, T2) H locs ls ⟨hi5, hrel2, hkn2, h, hl⟩ (by show L - (i + 5) < L - i; omega)
    · refine lv_tableIn (off := 312) (tgt := 344) hx hb d_law_law_32 (by decide) (by decide) (by rfl) (by decide) ?_
      refine lv_aload_n hx hb d_law_law_344 rfl (lv_at hl 2 rfl) ?_
      refine lv_aload_n hx hb d_law_law_345 rfl (lv_at hl 3 rfl) ?_
      refine lv_iload_n hx hb d_law_law_346 rfl (lv_at hl 0 rfl) ?_
      refine lv_iconst (v := 1) hx hb d_law_law_347 (by decide) ?_
      refine lv_iadd hx hb d_law_law_348 ?_
      refine w_i (nI (i + 1)) (nI_add i 1) ?_
      refine r_sld hx hb hX hbl h (i + 1) (by omega) rfl (by omega) d_law_law_349 ?_
      refine r_callR (As := [.int (xs (i + 1))]) (rest := []) C h cv_law_42 (c_PF_fault l D cA ad V G K (xs (i + 1)) hPFI) 0 rfl rfl rfl rfl hl.1 rfl (Nat.le_of_ble_eq_true rfl) rfl rfl ⟨Nat.le_of_ble_eq_true rfl, Nat.le_of_ble_eq_true rfl⟩ ⟨Nat.le_of_ble_eq_true rfl, Nat.le_of_ble_eq_true rfl⟩ d_law_law_350 (fun r1 u1 H locs hq1 h => ?_)
      have h := h.swap
      refine lv_aload_n hx hb d_law_law_353 rfl (lv_at hl 1 rfl) ?_
      refine lv_aload_n hx hb d_law_law_354 rfl (lv_at hl 3 rfl) ?_
      refine lv_iload_n hx hb d_law_law_355 rfl (lv_at hl 0 rfl) ?_
      refine lv_iconst (v := 1) hx hb d_law_law_356 (by decide) ?_
      refine lv_iadd hx hb d_law_law_357 ?_
      refine w_i (nI (i + 1)) (nI_add i 1) ?_
      refine r_sld hx hb hX hbl h (i + 1) (by omega) rfl (by omega) d_law_law_358 ?_
      refine r_callR (As := [.int (xs (i + 1))]) (rest := [.int r1]) C h cv_law_46 (c_PM_fault l D cA bd M T (xs (i + 1)) hrel.2.2.2.1) 0 rfl rfl rfl rfl hl.1 rfl (Nat.le_of_ble_eq_true rfl) rfl rfl ⟨Nat.le_of_ble_eq_true rfl, Nat.le_of_ble_eq_true rfl⟩ ⟨Nat.le_of_ble_eq_true rfl, Nat.le_of_ble_eq_true rfl⟩ d_law_law_359 (fun r2 u2 H locs hq2 h => ?_)
      have h := h.swap
      obtain ⟨er, V2, G2, K2, M2, T2, hrel2, hkn2, rfl, rfl⟩ : Nxt cA ad bd r1 r2 u1 u2 := nx_ask hrel (hrel.fault (xs (i + 1))) hq1 hq2
      refine lv_icmp_eq (tgt := 403) hx hb d_law_law_362 (by decide) (fun _ => ?_) (fun q => absurd (er) q)
      refine lv_iinc (v := nI (i + 5)) (lv' := [(3, .int (nI (i + 5))), (2, .ref (bd 0)), (1, .ref (ad 0)), (0, .ref b)]) hx hb d_law_law_403 hl (k := 0) rfl (by rw [show Int32.ofInt 5 = nI 5 by decide]; exact nI_add i 5) (by decide) rfl (fun ls hl => ?_)
      refine lv_goto (tgt := 18) hx hb d_law_law_406 (by decide) ?_
      exact ih (i + 5, V2, G2, K2, M2, T2) H locs ls ⟨hi5, hrel2, hkn2, h, hl⟩ (by show L - (i + 5) < L - i; omega)
    · refine lv_tableIn (off := 335) (tgt := 367) hx hb d_law_law_32 (by decide) (by decide) (by rfl) (by decide) ?_
      refine lv_aload_n hx hb d_law_law_367 rfl (lv_at hl 2 rfl) ?_
      refine lv_aload_n hx hb d_law_law_368 rfl (lv_at hl 3 rfl) ?_
      refine lv_iload_n hx hb d_law_law_369 rfl (lv_at hl 0 rfl) ?_
      refine lv_iconst (v := 1) hx hb d_law_law_370 (by decide) ?_
      refine lv_iadd hx hb d_law_law_371 ?_
      refine w_i (nI (i + 1)) (nI_add i 1) ?_
      refine r_sld hx hb hX hbl h (i + 1) (by omega) rfl (by omega) d_law_law_372 ?_
      refine r_callR (As := [.int (xs (i + 1))]) (rest := []) C h cv_law_47 (c_PF_count l D cA ad V G K (xs (i + 1)) hPFI) 0 rfl rfl rfl rfl hl.1 rfl (Nat.le_of_ble_eq_true rfl) rfl rfl ⟨Nat.le_of_ble_eq_true rfl, Nat.le_of_ble_eq_true rfl⟩ ⟨Nat.le_of_ble_eq_true rfl, Nat.le_of_ble_eq_true rfl⟩ d_law_law_373 (fun r1 u1 H locs hq1 h => ?_)
      have h := h.swap
      refine lv_aload_n hx hb d_law_law_376 rfl (lv_at hl 1 rfl) ?_
      refine lv_aload_n hx hb d_law_law_377 rfl (lv_at hl 3 rfl) ?_
      refine lv_iload_n hx hb d_law_law_378 rfl (lv_at hl 0 rfl) ?_
      refine lv_iconst (v := 1) hx hb d_law_law_379 (by decide) ?_
      refine lv_iadd hx hb d_law_law_380 ?_
      refine w_i (nI (i + 1)) (nI_add i 1) ?_
      refine r_sld hx hb hX hbl h (i + 1) (by omega) rfl (by omega) d_law_law_381 ?_
      refine r_callR (As := [.int (xs (i + 1))]) (rest := [.int r1]) C h cv_law_50 (c_PM_count l D cA bd M T (xs (i + 1)) hrel.2.2.2.1) 0 rfl rfl rfl rfl hl.1 rfl (Nat.le_of_ble_eq_true rfl) rfl rfl ⟨Nat.le_of_ble_eq_true rfl, Nat.le_of_ble_eq_true rfl⟩ ⟨Nat.le_of_ble_eq_true rfl, Nat.le_of_ble_eq_true rfl⟩ d_law_law_382 (fun r2 u2 H locs hq2 h => ?_)
      have h := h.swap
      obtain ⟨er, V2, G2, K2, M2, T2, hrel2, hkn2, rfl, rfl⟩ : Nxt cA ad bd r1 r2 u1 u2 := nx_ask hrel (hrel.count (xs (i + 1))) hq1 hq2
      refine lv_icmp_eq (tgt := 403) hx hb d_law_law_385 (by decide) (fun _ => ?_) (fun q => absurd (er) q)
      refine lv_iinc (v := nI (i + 5)) (lv' := [(3, .int (nI (i + 5))), (2, .ref (bd 0)), (1, .ref (ad 0)), (0, .ref b)]) hx hb d_law_law_403 hl (k := 0) rfl (by rw [show Int32.ofInt 5 = nI 5 by decide]; exact nI_add i 5) (by decide) rfl (fun ls hl => ?_)
      refine lv_goto (tgt := 18) hx hb d_law_law_406 (by decide) ?_
      exact ih (i + 5, V2, G2, K2, M2, T2) H locs ls ⟨hi5, hrel2, hkn2, h, hl⟩ (by show L - (i + 5) < L - i; omega)
    · refine lv_tableIn (off := 358) (tgt := 390) hx hb d_law_law_32 (by decide) (by decide) (by rfl) (by decide) ?_
      refine lv_aload_n hx hb d_law_law_390 rfl (lv_at hl 2 rfl) ?_
      refine r_callR (As := []) (rest := []) C h cv_law_51 (c_PF_clear l D cA ad V G K) 0 rfl rfl rfl rfl hl.1 rfl (Nat.le_of_ble_eq_true rfl) rfl rfl ⟨Nat.le_of_ble_eq_true rfl, Nat.le_of_ble_eq_true rfl⟩ ⟨Nat.le_of_ble_eq_true rfl, Nat.le_of_ble_eq_true rfl⟩ d_law_law_391 (fun r1 u1 H locs hq1 h => ?_)
      have h := h.swap
      refine lv_aload_n hx hb d_law_law_394 rfl (lv_at hl 1 rfl) ?_
      refine r_callR (As := []) (rest := [.int r1]) C h cv_law_55 (c_PM_clear l D cA bd M T) 0 rfl rfl rfl rfl hl.1 rfl (Nat.le_of_ble_eq_true rfl) rfl rfl ⟨Nat.le_of_ble_eq_true rfl, Nat.le_of_ble_eq_true rfl⟩ ⟨Nat.le_of_ble_eq_true rfl, Nat.le_of_ble_eq_true rfl⟩ d_law_law_395 (fun r2 u2 H locs hq2 h => ?_)
      have h := h.swap
      obtain ⟨er, V2, G2, K2, M2, T2, hrel2, hkn2, rfl, rfl⟩ : Nxt cA ad bd r1 r2 u1 u2 := nx_clear hrel hq1 hq2
      refine lv_icmp_eq (tgt := 403) hx hb d_law_law_398 (by decide) (fun _ => ?_) (fun q => absurd (er) q)
      refine lv_iinc (v := nI (i + 5)) (lv' := [(3, .int (nI (i + 5))), (2, .ref (bd 0)), (1, .ref (ad 0)), (0, .ref b)]) hx hb d_law_law_403 hl (k := 0) rfl (by rw [show Int32.ofInt 5 = nI 5 by decide]; exact nI_add i 5) (by decide) rfl (fun ls hl => ?_)
      refine lv_goto (tgt := 18) hx hb d_law_law_406 (by decide) ?_
      exact ih (i + 5, V2, G2, K2, M2, T2) H locs ls ⟨hi5, hrel2, hkn2, h, hl⟩ (by show L - (i + 5) < L - i; omega)
    · refine lv_tableOut (tgt := 403) hx hb d_law_law_32 (Or.inr (by rw [nI_toInt (by omega)]; omega)) (by decide) ?_
      refine lv_iinc (v := nI (i + 5)) (lv' := [(3, .int (nI (i + 5))), (2, .ref (bd 0)), (1, .ref (ad 0)), (0, .ref b)]) hx hb d_law_law_403 hl (k := 0) rfl (by rw [show Int32.ofInt 5 = nI 5 by decide]; exact nI_add i 5) (by decide) rfl (fun ls hl => ?_)
      refine lv_goto (tgt := 18) hx hb d_law_law_406 (by decide) ?_
      exact ih (i + 5, V, G, K, M, T) H locs ls ⟨hi5, hrel, hkn, h, hl⟩ (by show L - (i + 5) < L - i; omega)
theorem arr_of {args : Array Value} {s : State} {ty : FieldType} (h : (Cond.arrayClass ty).before args s = true) : ∃ x : ClassId, ArrOfT s x ty ∧ s.vm.findClass ("[" ++ ty.toString) = some x := by
  obtain ⟨x, k, comp, h1, h2, h3⟩ := Cond.arrayClass_spec h
  exact ⟨x, fun n z => ⟨fun k h => (by cases h), k, h2, comp, h3⟩, h1⟩
theorem arr_ofQ {args : Array Value} {s : State} {E : String} (h : (Cond.arrayOver (.object E)).before args s = true) : ∃ x : ClassId, ArrOfT s x (.object E) ∧ va_RA s x (.object E) := by
  obtain ⟨comp, x, k, h1, h2, h3, h4, h5⟩ := Cond.arrayOver_spec h
  exact ⟨x, fun n z => ⟨fun k h => (by cases h), k, h3, comp, h4⟩, k, comp, h3, h4, h1, h5⟩
theorem Kx_start {args : Array Value} {s : State} (hts : ∀ w ∈ lw_tbl, w.before args s = true) : ∃ (D : va_G) (cA : Nat → ClassId), Kx D cA s := by
  have hbw : ∀ w ∈ BW, w.before args s = true := fun w hw => hts w (bw_sub hw)
  obtain ⟨c0, i0, k0⟩ := u_known (C := R_PF) (T := F_PF) (N := 15) (n := 15) hbw in_PF (hbw _ wt_PF)
  obtain ⟨c1, i1, k1⟩ := u_known (C := R_PV) (T := F_PV) (N := 4) (n := 4) hbw in_PV (hbw _ wt_PV)
  obtain ⟨c2, i2, k2⟩ := u_known (C := R_PP) (T := F_PP) (N := 1) (n := 1) hbw in_PP (hbw _ wt_PP)
  obtain ⟨c3, i3, k3⟩ := u_known (C := R_PM) (T := F_PM) (N := 14) (n := 14) hbw in_PM (hbw _ wt_PM)
  obtain ⟨a0, e0, f0⟩ := arr_of (hbw _ wa_int)
  obtain ⟨a1, e1, f1⟩ := arr_of (hbw _ wa_boolean)
  obtain ⟨a2, e2, f2⟩ := arr_of (hbw _ wa_byte)
  obtain ⟨a3, e3, f3⟩ := arr_of (hbw _ wa_long)
  have hao := hts (.arrayOver (.object R_PP)) (lw_mem 39 (by decide +kernel))
  obtain ⟨a4, e4, f4⟩ := arr_ofQ hao
  refine ⟨(fun k => if k = 0 then c0 else if k = 1 then c1 else if k = 2 then c2 else c3, fun k => if k = 0 then i0 else if k = 1 then i1 else if k = 2 then i2 else i3), fun k => if k = 0 then a0 else if k = 1 then a1 else if k = 2 then a2 else if k = 3 then a3 else a4, ⟨?_, ?_⟩, ?_⟩
  · intro k q hq
    match k, hq with
    | 0, hq => cases hq; exact k0
    | 1, hq => cases hq; exact k1
    | 2, hq => cases hq; exact k2
    | 3, hq => cases hq; exact k3
    | k + 4, hq => simp [classes] at hq
  · intro k q hq
    match k, hq with
    | 0, hq => cases hq; exact ⟨e0, f0⟩
    | 1, hq => cases hq; exact ⟨e1, f1⟩
    | 2, hq => cases hq; exact ⟨e2, f2⟩
    | 3, hq => cases hq; exact ⟨e3, f3⟩
    | 4, hq => cases hq; exact ⟨e4, f4⟩
    | k + 5, hq => simp [tysA] at hq
  · exact ⟨va_Nw.of rfl (hts _ (lw_mem 20 (by decide +kernel))), va_Nw.of rfl (hts _ (lw_mem 22 (by decide +kernel))), va_Nw.of rfl (hts _ (lw_mem 24 (by decide +kernel))), va_Nw.of rfl (hts _ (lw_mem 26 (by decide +kernel))), va_Nw.of rfl (hts _ (lw_mem 15 (by decide +kernel))), va_Nw.of rfl (hts _ (lw_mem 41 (by decide +kernel))), va_AO.of hao⟩
set_option maxHeartbeats 4000000 in
set_option maxRecDepth 100000 in
theorem whole_start {p : Program} {e : Env} {s : State} {m : MethodId} {below : List Frame} {meth : Method} {c : Code} (l : Launch) {b L : Nat} {xs : Nat → Int32} (hL : L ≤ 2560) (C0 : lw_At p s m meth c b L xs) : W p l e room_1 s m #[Value.ref b] below meth c s.heap [] 0 0 (lw_Z below #[Value.ref b] s) (entryFrame m ([Value.ref b] : List Value).toArray 4) := by
  obtain ⟨hx, hb, hr, hml, hown, hts, hX, hbl, hlocks, hgv⟩ := id C0
  obtain ⟨D, cA, hKx⟩ := Kx_start hts
  have C : Cx p s m #[Value.ref b] meth c b_law_law 4 R_law D cA := ⟨hx, hb, hml, hown, fun w hw => hts w (bw_sub hw), hKx, hlocks⟩
  have h : Hp (fun q : Nat => s.heap.size ≤ q) s D [] s.heap [] := ⟨fun k q h => by simp at h, ⟨fun i j p q h => by simp at h, fun k q h => by simp at h⟩, va_S.rf, fun _ h => h⟩
  have hl := lv_entry ([.ref b]) (n := 4) (Nat.le_of_ble_eq_true rfl)
  rw [lg_entry_eq]
  generalize (lg_sl ([.ref b]) ++ List.replicate (4 - (lg_sl ([.ref b])).length) Slot.unset).toArray = ls at hl ⊢
  have hl : lv_has ls 4 [(0, .ref b)] := hl
  refine r_new (q0 := (R_PF, F_PF, 15)) (ty := t_PF) (ci := 0) (fs := [.null, .null, .null, .null, .null, .null, .null, .int (nI 0), .null, .null, .null, .null, .null, .int (bI false), .int (bI false)]) C h in_PF t_PF_ok rfl wl_law_7 wt_PF wi_PF (fun j hj => by have hj : j < 15 := hj; rcases (show j = 0 ∨ j = 1 ∨ j = 2 ∨ j = 3 ∨ j = 4 ∨ j = 5 ∨ j = 6 ∨ j = 7 ∨ j = 8 ∨ j = 9 ∨ j = 10 ∨ j = 11 ∨ j = 12 ∨ j = 13 ∨ j = 14 by omega) with rfl | rfl | rfl | rfl | rfl | rfl | rfl | rfl | rfl | rfl | rfl | rfl | rfl | rfl | rfl <;> rfl) (Nat.le_of_ble_eq_true rfl) (Nat.le_of_ble_eq_true rfl) d_law_law_0 (fun q0 H h => ?_)
  refine lv_dup hx hb d_law_law_3 rfl ?_
  refine r_ctorR (w1 := []) (o := q0) (rest := [.ref q0]) C h ml_law_9 wc_PF_init wi_PF wm_PF_init rfl (by decide +kernel) (c_PF_init l D cA q0) hl.1 (Nat.le_of_ble_eq_true rfl) ⟨Nat.le_of_ble_eq_true rfl, Nat.le_of_ble_eq_true rfl⟩ ⟨Nat.le_of_ble_eq_true rfl, Nat.le_of_ble_eq_true rfl⟩ d_law_law_4 (fun u H locs hq h => ?_)
  obtain ⟨ad, had, rfl⟩ := hq
  have h : Hp (fun q : Nat => s.heap.size ≤ q) s D (wPF cA ad V0 G0 K0) H locs := h
  refine lv_astore_n (lv' := [(1, .ref q0), (0, .ref b)]) hx hb d_law_law_7 rfl hl (by decide) rfl (fun ls hl => ?_)
  refine r_new (q0 := (R_PM, F_PM, 14)) (ty := t_PM) (ci := 3) (fs := [.int (nI 0), .null, .null, .null, .int (nI 0), .null, .null, .null, .null, .null, .null, .null, .null, .int (nI 0)]) C h in_PM t_PM_ok rfl wl_law_10 wt_PM wi_PM (fun j hj => by have hj : j < 14 := hj; rcases (show j = 0 ∨ j = 1 ∨ j = 2 ∨ j = 3 ∨ j = 4 ∨ j = 5 ∨ j = 6 ∨ j = 7 ∨ j = 8 ∨ j = 9 ∨ j = 10 ∨ j = 11 ∨ j = 12 ∨ j = 13 by omega) with rfl | rfl | rfl | rfl | rfl | rfl | rfl | rfl | rfl | rfl | rfl | rfl | rfl | rfl <;> rfl) (Nat.le_of_ble_eq_true rfl) (Nat.le_of_ble_eq_true rfl) d_law_law_8 (fun q1 H h => ?_)
  refine lv_dup hx hb d_law_law_11 rfl ?_
  refine r_ctorR (o := q1) (rest := [.ref q1]) C h ml_law_12 wc_PM_init wi_PM wm_PM_init rfl (by decide +kernel) (c_PM_init l D cA q1) hl.1 (Nat.le_of_ble_eq_true rfl) ⟨Nat.le_of_ble_eq_true rfl, Nat.le_of_ble_eq_true rfl⟩ ⟨Nat.le_of_ble_eq_true rfl, Nat.le_of_ble_eq_true rfl⟩ d_law_law_12 (fun u H locs hq h => ?_)
  obtain ⟨bd, hbd, rfl⟩ := hq
  have h := h.swap
  refine lv_astore_n (lv' := [(2, .ref q1), (1, .ref q0), (0, .ref b)]) hx hb d_law_law_15 rfl hl (by decide) rfl (fun ls hl => ?_)
  refine lv_iconst (v := nI 0) hx hb d_law_law_16 (by decide) ?_
  refine lv_istore_n (lv' := [(3, .int (nI 0)), (2, .ref q1), (1, .ref q0), (0, .ref b)]) hx hb d_law_law_17 rfl hl (by decide) rfl (fun ls hl => ?_)
  rw [← had, ← hbd] at hl
  refine W.widen (k := 926428) (n := 6322963) (Nat.le_of_ble_eq_true rfl) (Nat.le_of_ble_eq_true rfl) ?_
  exact law_loop hL C hr hX hbl Rel_0 (fun z => (by cases z)) h hl
-- ===== YOUR PART ENDS =====
set_option maxHeartbeats 4000000 in
theorem lw_walk (l : Launch) (b : Addr) (xs : List Int32) : MetFree l x (headSpec (Jvm.Cond.code x code maxLocals ret :: tables_1) room_1) (lw_P b xs) (fun _ _ _ _ _ => True) lw_Q := by
  refine MetFree.of_bodyS (code := code) (maxLocals := maxLocals) (ret := ret) (by decide) ?_ ?_
  · intro args s m h hn
    obtain ⟨meth, c, h1, h2, h3, h4, h5, h6, -, -⟩ := Cond.code_spec hn (atoms_spec (ws := Jvm.Cond.code x code maxLocals ret :: tables_1) h _ List.mem_cons_self)
    exact ⟨meth, c, h1, h2, h3, h4, h5, h6⟩
  · intro p e s m args below meth c s₁ B hml0 hP _
    obtain ⟨rfl, hx, hbd, hgv⟩ := hP
    obtain ⟨scr, harrAt, hlist, hof, hsmall⟩ := hx
    obtain ⟨hcb, hkn, -, -⟩ := State.arrayAt?_spec harrAt
    have hown : s.vm.findClass R_law = some m.cls := findClass_of_methodNamed B.named
    have hts0 : ∀ c ∈ (Jvm.Cond.code x code maxLocals ret :: tables_1), c.before #[Value.ref b] s = true := atoms_spec (ws := Jvm.Cond.code x code maxLocals ret :: tables_1) B.pre
    have hts : ∀ w ∈ lw_tbl, w.before #[Value.ref b] s = true := k2_hts_sels lw_privs (fun w hw => hts0 w (List.mem_cons_of_mem _ hw)) lw_privs_ok
    have hml : c.maxLocals = 4 := B.maxLocals_eq (hts0 _ List.mem_cons_self)
    have X₀ : Stand p l e room_1 s m #[Value.ref b] below meth c s₁ [] 0 0 := Stand.of_body B
    have hh0 : s₁.heap = s.heap := by rw [B.state]; rfl
    have hsz : scr.slots.size = xs.length := by rw [← Array.length_toList, hlist, List.length_map]
    have hval : ∀ j : Nat, j < xs.length → scr.slots[j]? = some (.int (xs.getD j 0)) := fun j hj => by
      rw [← Array.getElem?_toList, hlist]
      simp [hj]
    have hbl : b < s.heap.size := (Array.getElem?_eq_some_iff.mp hcb).1
    have hX : va_X b xs.length (fun j => xs.getD j 0) s s.heap := ⟨scr, hcb, hof, hkn, hsz, hval⟩
    have K : W p l e room_1 s m #[Value.ref b] below meth c s₁.heap [] 0 0 (lw_Z below #[Value.ref b] s) (entryFrame m ([Value.ref b] : List Value).toArray 4) := by
      rw [hh0]
      exact whole_start l hbd ⟨B.exec, B.bytes, B.returns, hml, hown, hts, hX, hbl, B.notSynchronized, hgv⟩
    obtain ⟨t, a1, o, b1, b2, b3⟩ := K s₁ rfl X₀
    exact ⟨t, o, a1, b1, b2, b3⟩
theorem lw_pre_spec {args : Array Value} {s : State} (h : (Jvm.Cond.and given_1 narrow_1).before args s = true) (hr : rest_1_c.before args s = true) : ∃ (b : Addr) (xs : List Int32), lw_P b xs args s := by
  have hs := flat_of_before _ h
  have hq := flat_of_before _ hr
  have hc : (Cond.count 1).before args s = true := hs _ (by decide +kernel)
  have harr : (Cond.arrayOf (.arg 0) .int).before args s = true := hs _ (by decide +kernel)
  have hle : (Cond.le (.length (.arg 0)) (.int 2560)).before args s = true := hs _ (by decide +kernel)
  have hlen : (Cond.isInt (.length (.arg 0))).before args s = true := hq _ (by decide +kernel)
  have hall : (Cond.all (.arg 0) (.isInt (.elem (.arg 0) (.index 0)))).before args s = true := hq _ (by decide +kernel)
  obtain ⟨b, xs, hb, hx⟩ := State.ints_of_pre rfl harr hlen hall
  have hsm : xs.length < 2 ^ 31 := hx.choose_spec.2.2.2
  have hev : (Term.length (.arg 0)).eval args s none [] s = some (.int xs.length.toInt32) := hx.length_eval hb
  have hv := Cond.le_ints hev (show (Term.int 2560).eval args s none [] s = some (.int 2560) from rfl)
  have hd : xs.length.toInt32 ≤ 2560 := by
    simpa [Cond.before, Cond.holds, hv] using hle
  have hN : xs.length ≤ 2560 := (Int32.ofNat_le_ofNat hsm (by decide)).mp (show Int32.ofNat xs.length ≤ Int32.ofNat 2560 from hd)
  exact ⟨b, xs, Cond.one_arg hc (show args[0]? = some (.ref b) from hb), hx, hN, h⟩
theorem lw_comes (l : Launch) : Comes l x (Jvm.Cond.code x code maxLocals ret :: tables_1) room_1 (fun tb e args s => Calls_1 tb e args s ∧ rest_1 tb e args s ∧ Pre_1 tb e args s)
    (fun _ _ args s o t => lw_Q args s o t) := by
  intro p e ha hc hk s m args below hf hfit hheap happ hpre
  obtain ⟨b, xs, hP⟩ := lw_pre_spec hpre.2.2 hpre.2.1
  obtain ⟨k, o, h1, h2, h3, hQ⟩ := lw_walk l b xs p e ha hc hk s m args below hf ((Spec.applies_iff_loose hf).mp happ).1 hP trivial
  exact ⟨k, o, h1, h2, h3, hQ⟩
theorem lw_frame {s t : State} {o : Outcome} {args : Array Value} (h : Framed s o t [] 926428 6322963) :
    Framed s o t (fieldLocs frame_1_writes args s ++ arrayLocs frame_1_arrays args s ++ staticLocs frame_1_statics s) 926428 6322963 := h
theorem lw_limb (L : Cond) (hL : ∀ (args : Array Value) (s t : State), L.after args s (.returned (some (.int 1))) t = true) :
    ArmFor flags0 classFile x code maxLocals ret World_1 tables_1 room_1 Calls_1 rest_1 Pre_1
      (fun tb e a s o t => postC L tb e a s o t ∧ Framed s o t (fieldLocs frame_1_writes a s ++ arrayLocs frame_1_arrays a s ++ staticLocs frame_1_statics s) 926428 6322963) := by
  intro l _ _ _ p e ha hc hk s m args below hf hfit hheap happ hpre
  obtain ⟨k, o, h1, h2, h3, rfl, hF⟩ := lw_comes l p e ha hc hk s m args below hf hfit hheap happ hpre
  exact ⟨k, _, h1, h2, h3, hL args s _, lw_frame hF⟩
theorem i_vc : Claimed_1_1 ∧ Claimed_1_2 := ⟨lw_limb limb_1_1 (fun args s t => by simp [limb_1_1, Cond.after, Cond.holds, Cond.value]), lw_limb limb_1_2 (fun args s t => Cond.after_iff.mpr (by
  first | (rw [show limb_1_2 = Cond.eq .result (.int 1) from rfl, Cond.eq_ints (x := 1) (y := 1) rfl rfl]; simp; done) | (simp [limb_1_2, Cond.value, Term.eval]; done)))⟩
end
