section
-- ===== PART A: goes FIRST, ahead of the names: the tables' words, and 'selects' of the private methods out of them =====
/-- a private method of a class that the tables say can be made, by its rows of tables_1 -/
def lw_okq (q : MethodName × Nat) : Prop := (q.1.cls ≠ "java/lang/invoke/MethodHandle" ∧ q.1.cls ≠ "java/lang/invoke/VarHandle") ∧ Cond.instantiable q.1.cls q.2 ∈ tables_1 ∧ Cond.privateMethod q.1 ∈ tables_1 ∧ Cond.instanceMethod q.1 ∈ tables_1
theorem lw_p0 : lw_okq (⟨"RetiredTimer", "untilTimer", "()J"⟩, 7) := ⟨⟨by decide +kernel, by decide +kernel⟩, List.mem_of_getElem? (i := 7) (by decide +kernel), List.mem_of_getElem? (i := 102) (by decide +kernel), List.mem_of_getElem? (i := 103) (by decide +kernel)⟩
theorem lw_p1 : lw_okq (⟨"RetiredTimer", "is", "(I)Z"⟩, 7) := ⟨⟨by decide +kernel, by decide +kernel⟩, List.mem_of_getElem? (i := 7) (by decide +kernel), List.mem_of_getElem? (i := 106) (by decide +kernel), List.mem_of_getElem? (i := 107) (by decide +kernel)⟩
theorem lw_p2 : lw_okq (⟨"RetiredTimer$Timer", "way", "()J"⟩, 4) := ⟨⟨by decide +kernel, by decide +kernel⟩, List.mem_of_getElem? (i := 15) (by decide +kernel), List.mem_of_getElem? (i := 114) (by decide +kernel), List.mem_of_getElem? (i := 115) (by decide +kernel)⟩
theorem lw_p3 : lw_okq (⟨"RetiredTimer", "untilLines", "()J"⟩, 7) := ⟨⟨by decide +kernel, by decide +kernel⟩, List.mem_of_getElem? (i := 7) (by decide +kernel), List.mem_of_getElem? (i := 122) (by decide +kernel), List.mem_of_getElem? (i := 123) (by decide +kernel)⟩
theorem lw_p4 : lw_okq (⟨"RetiredTimer", "due", "()I"⟩, 7) := ⟨⟨by decide +kernel, by decide +kernel⟩, List.mem_of_getElem? (i := 7) (by decide +kernel), List.mem_of_getElem? (i := 146) (by decide +kernel), List.mem_of_getElem? (i := 147) (by decide +kernel)⟩
theorem lw_p5 : lw_okq (⟨"RetiredTimerModel", "goOn", "()V"⟩, 14) := ⟨⟨by decide +kernel, by decide +kernel⟩, List.mem_of_getElem? (i := 188) (by decide +kernel), List.mem_of_getElem? (i := 241) (by decide +kernel), List.mem_of_getElem? (i := 242) (by decide +kernel)⟩
theorem lw_p6 : lw_okq (⟨"RetiredTimerModel", "due", "()I"⟩, 14) := ⟨⟨by decide +kernel, by decide +kernel⟩, List.mem_of_getElem? (i := 188) (by decide +kernel), List.mem_of_getElem? (i := 250) (by decide +kernel), List.mem_of_getElem? (i := 251) (by decide +kernel)⟩
theorem lw_p7 : lw_okq (⟨"RetiredTimerModel", "linesNow", "()I"⟩, 14) := ⟨⟨by decide +kernel, by decide +kernel⟩, List.mem_of_getElem? (i := 188) (by decide +kernel), List.mem_of_getElem? (i := 254) (by decide +kernel), List.mem_of_getElem? (i := 255) (by decide +kernel)⟩
theorem lw_p8 : lw_okq (⟨"RetiredTimerModel", "step", "()V"⟩, 14) := ⟨⟨by decide +kernel, by decide +kernel⟩, List.mem_of_getElem? (i := 188) (by decide +kernel), List.mem_of_getElem? (i := 258) (by decide +kernel), List.mem_of_getElem? (i := 259) (by decide +kernel)⟩
def lw_privs_1 : List (MethodName × Nat) := [(⟨"RetiredTimer", "untilTimer", "()J"⟩, 7), (⟨"RetiredTimer", "is", "(I)Z"⟩, 7), (⟨"RetiredTimer$Timer", "way", "()J"⟩, 4), (⟨"RetiredTimer", "untilLines", "()J"⟩, 7), (⟨"RetiredTimer", "due", "()I"⟩, 7), (⟨"RetiredTimerModel", "goOn", "()V"⟩, 14), (⟨"RetiredTimerModel", "due", "()I"⟩, 14), (⟨"RetiredTimerModel", "linesNow", "()I"⟩, 14), (⟨"RetiredTimerModel", "step", "()V"⟩, 14)]
theorem lw_r1 : ∀ q ∈ lw_privs_1, lw_okq q := List.forall_mem_cons.mpr ⟨lw_p0, List.forall_mem_cons.mpr ⟨lw_p1, List.forall_mem_cons.mpr ⟨lw_p2, List.forall_mem_cons.mpr ⟨lw_p3, List.forall_mem_cons.mpr ⟨lw_p4, List.forall_mem_cons.mpr ⟨lw_p5, List.forall_mem_cons.mpr ⟨lw_p6, List.forall_mem_cons.mpr ⟨lw_p7, List.forall_mem_cons.mpr ⟨lw_p8, fun _ h => absurd h List.not_mem_nil⟩⟩⟩⟩⟩⟩⟩⟩⟩
def lw_privs : List (MethodName × Nat) := lw_privs_1
def lw_tbl : List Cond := k2_sels lw_privs ++ tables_1
theorem lw_privs_ok : ∀ q ∈ lw_privs, lw_okq q := lw_r1
-- names
def R_Tm : String := "RetiredTimer$Timer"
def R_Rw : String := "RetiredTimer$Row"
def R_Rt : String := "RetiredTimer"
def R_Md : String := "RetiredTimerModel"
def R_Mt : String := "java/lang/Math"
def F_Tm : u_T := fun k => match k with
  | 0 => ("RetiredTimer$Timer", "period", "I", false)
  | 1 => ("RetiredTimer$Timer", "count", "I", false)
  | 2 => ("RetiredTimer$Timer", "counting", "Z", false)
  | _ => ("RetiredTimer$Timer", "pending", "Z", false)
def t_Tm : Nat → FieldType := fun k => match k with
  | 0 => .int
  | 1 => .int
  | 2 => .boolean
  | _ => .boolean
def F_Rw : u_T := fun k => match k with
  | 0 => ("RetiredTimer$Row", "counts", "[I", true)
  | 1 => ("RetiredTimer$Row", "values", "[I", true)
  | _ => ("RetiredTimer$Row", "many", "I", false)
def t_Rw : Nat → FieldType := fun k => match k with
  | 0 => .array .int
  | 1 => .array .int
  | _ => .int
def F_Rt : u_T := fun k => match k with
  | 0 => ("RetiredTimer", "timer", "LRetiredTimer$Timer;", true)
  | 1 => ("RetiredTimer", "row", "LRetiredTimer$Row;", true)
  | 2 => ("RetiredTimer", "retired", "I", false)
  | 3 => ("RetiredTimer", "mask", "I", false)
  | 4 => ("RetiredTimer", "sr", "I", false)
  | 5 => ("RetiredTimer", "saved", "I", false)
  | _ => ("RetiredTimer", "taken", "I", false)
def t_Rt : Nat → FieldType := fun k => match k with
  | 0 => .object "RetiredTimer$Timer"
  | 1 => .object "RetiredTimer$Row"
  | 2 => .int
  | 3 => .int
  | 4 => .int
  | 5 => .int
  | _ => .int
def F_Md : u_T := fun k => match k with
  | 0 => ("RetiredTimerModel", "thrown", "I", false)
  | 1 => ("RetiredTimerModel", "retired", "I", false)
  | 2 => ("RetiredTimerModel", "count", "I", false)
  | 3 => ("RetiredTimerModel", "period", "I", false)
  | 4 => ("RetiredTimerModel", "counting", "Z", false)
  | 5 => ("RetiredTimerModel", "pending", "Z", false)
  | 6 => ("RetiredTimerModel", "mask", "I", false)
  | 7 => ("RetiredTimerModel", "sr", "I", false)
  | 8 => ("RetiredTimerModel", "saved", "I", false)
  | 9 => ("RetiredTimerModel", "taken", "I", false)
  | 10 => ("RetiredTimerModel", "counts", "[I", true)
  | 11 => ("RetiredTimerModel", "values", "[I", true)
  | 12 => ("RetiredTimerModel", "entries", "I", false)
  | _ => ("RetiredTimerModel", "come", "I", false)
def t_Md : Nat → FieldType := fun k => match k with
  | 0 => .int
  | 1 => .int
  | 2 => .int
  | 3 => .int
  | 4 => .boolean
  | 5 => .boolean
  | 6 => .int
  | 7 => .int
  | 8 => .int
  | 9 => .int
  | 10 => .array .int
  | 11 => .array .int
  | 12 => .int
  | _ => .int
abbrev b_Rt_init : ByteArray := prog_1_method_1_code
def y_Rt_init : MethodName := ⟨R_Rt, "<init>", "()V"⟩
abbrev b_Tm_init : ByteArray := prog_3_method_1_code
def y_Tm_init : MethodName := ⟨R_Tm, "<init>", "()V"⟩
abbrev b_Rw_init : ByteArray := prog_2_method_1_code
def y_Rw_init : MethodName := ⟨R_Rw, "<init>", "()V"⟩
abbrev b_Rt_reset : ByteArray := prog_1_method_2_code
def y_Rt_reset : MethodName := ⟨R_Rt, "reset", "()V"⟩
abbrev b_Tm_reset : ByteArray := prog_3_method_2_code
def y_Tm_reset : MethodName := ⟨R_Tm, "reset", "()V"⟩
abbrev b_Rt_entry : ByteArray := prog_1_method_7_code
def y_Rt_entry : MethodName := ⟨R_Rt, "entry", "(II)Z"⟩
abbrev b_Rw_add : ByteArray := prog_2_method_2_code
def y_Rw_add : MethodName := ⟨R_Rw, "add", "(II)Z"⟩
abbrev b_Rt_steps : ByteArray := prog_1_method_8_code
def y_Rt_steps : MethodName := ⟨R_Rt, "steps", "(I)I"⟩
abbrev b_Rt_untilTimer : ByteArray := prog_1_method_4_code
def y_Rt_untilTimer : MethodName := ⟨R_Rt, "untilTimer", "()J"⟩
abbrev b_Rt_is : ByteArray := prog_1_method_3_code
def y_Rt_is : MethodName := ⟨R_Rt, "is", "(I)Z"⟩
abbrev b_Tm_until : ByteArray := prog_3_method_4_code
def y_Tm_until : MethodName := ⟨R_Tm, "until", "()J"⟩
abbrev b_Tm_way : ByteArray := prog_3_method_3_code
def y_Tm_way : MethodName := ⟨R_Tm, "way", "()J"⟩
abbrev b_Rt_untilLines : ByteArray := prog_1_method_5_code
def y_Rt_untilLines : MethodName := ⟨R_Rt, "untilLines", "()J"⟩
abbrev b_Rw_until : ByteArray := prog_2_method_4_code
def y_Rw_until : MethodName := ⟨R_Rw, "until", "(II)J"⟩
abbrev b_Rw_at : ByteArray := prog_2_method_3_code
def y_Rw_at : MethodName := ⟨R_Rw, "at", "(I)I"⟩
abbrev b_Mt_min : ByteArray := prog_6_method_70_code
def y_Mt_min : MethodName := ⟨R_Mt, "min", "(JJ)J"⟩
abbrev b_Tm_leap : ByteArray := prog_3_method_5_code
def y_Tm_leap : MethodName := ⟨R_Tm, "leap", "(J)V"⟩
abbrev b_Rt_take : ByteArray := prog_1_method_9_code
def y_Rt_take : MethodName := ⟨R_Rt, "take", "()I"⟩
abbrev b_Rt_due : ByteArray := prog_1_method_6_code
def y_Rt_due : MethodName := ⟨R_Rt, "due", "()I"⟩
abbrev b_Rt_back : ByteArray := prog_1_method_10_code
def y_Rt_back : MethodName := ⟨R_Rt, "back", "()V"⟩
abbrev b_Rt_mode : ByteArray := prog_1_method_11_code
def y_Rt_mode : MethodName := ⟨R_Rt, "mode", "(I)V"⟩
abbrev b_Rt_mask : ByteArray := prog_1_method_12_code
def y_Rt_mask : MethodName := ⟨R_Rt, "mask", "(I)V"⟩
abbrev b_Rt_timer : ByteArray := prog_1_method_13_code
def y_Rt_timer : MethodName := ⟨R_Rt, "timer", "(IZZ)V"⟩
abbrev b_Rt_count : ByteArray := prog_1_method_14_code
def y_Rt_count : MethodName := ⟨R_Rt, "count", "(I)V"⟩
abbrev b_Rt_until : ByteArray := prog_1_method_15_code
def y_Rt_until : MethodName := ⟨R_Rt, "until", "()I"⟩
abbrev b_Rt_linesAt : ByteArray := prog_1_method_16_code
def y_Rt_linesAt : MethodName := ⟨R_Rt, "linesAt", "(I)I"⟩
abbrev b_Rt_entryOf : ByteArray := prog_1_method_17_code
def y_Rt_entryOf : MethodName := ⟨R_Rt, "entryOf", "(IZ)I"⟩
abbrev b_Rt_look : ByteArray := prog_1_method_18_code
def y_Rt_look : MethodName := ⟨R_Rt, "look", "(I)I"⟩
abbrev b_Md_init : ByteArray := prog_5_method_1_code
def y_Md_init : MethodName := ⟨R_Md, "<init>", "()V"⟩
abbrev b_Md_entry : ByteArray := prog_5_method_6_code
def y_Md_entry : MethodName := ⟨R_Md, "entry", "(II)Z"⟩
abbrev b_Md_goOn : ByteArray := prog_5_method_3_code
def y_Md_goOn : MethodName := ⟨R_Md, "goOn", "()V"⟩
abbrev b_Md_steps : ByteArray := prog_5_method_8_code
def y_Md_steps : MethodName := ⟨R_Md, "steps", "(I)I"⟩
abbrev b_Md_due : ByteArray := prog_5_method_5_code
def y_Md_due : MethodName := ⟨R_Md, "due", "()I"⟩
abbrev b_Md_linesNow : ByteArray := prog_5_method_4_code
def y_Md_linesNow : MethodName := ⟨R_Md, "linesNow", "()I"⟩
abbrev b_Md_step : ByteArray := prog_5_method_7_code
def y_Md_step : MethodName := ⟨R_Md, "step", "()V"⟩
abbrev b_Md_take : ByteArray := prog_5_method_9_code
def y_Md_take : MethodName := ⟨R_Md, "take", "()I"⟩
abbrev b_Md_back : ByteArray := prog_5_method_10_code
def y_Md_back : MethodName := ⟨R_Md, "back", "()V"⟩
abbrev b_Md_mode : ByteArray := prog_5_method_11_code
def y_Md_mode : MethodName := ⟨R_Md, "mode", "(I)V"⟩
abbrev b_Md_mask : ByteArray := prog_5_method_12_code
def y_Md_mask : MethodName := ⟨R_Md, "mask", "(I)V"⟩
abbrev b_Md_timer : ByteArray := prog_5_method_13_code
def y_Md_timer : MethodName := ⟨R_Md, "timer", "(IZZ)V"⟩
abbrev b_Md_count : ByteArray := prog_5_method_14_code
def y_Md_count : MethodName := ⟨R_Md, "count", "(I)V"⟩
abbrev b_Md_reset : ByteArray := prog_5_method_15_code
def y_Md_reset : MethodName := ⟨R_Md, "reset", "()V"⟩
abbrev b_Md_until : ByteArray := prog_5_method_16_code
def y_Md_until : MethodName := ⟨R_Md, "until", "()I"⟩
abbrev b_Md_linesAt : ByteArray := prog_5_method_17_code
def y_Md_linesAt : MethodName := ⟨R_Md, "linesAt", "(I)I"⟩
abbrev b_Md_entryOf : ByteArray := prog_5_method_18_code
def y_Md_entryOf : MethodName := ⟨R_Md, "entryOf", "(IZ)I"⟩
abbrev b_Md_look : ByteArray := prog_5_method_19_code
def y_Md_look : MethodName := ⟨R_Md, "look", "(I)I"⟩
abbrev classes : List vw_C := [(R_Tm, F_Tm, 4), (R_Rw, F_Rw, 3), (R_Rt, F_Rt, 7), (R_Md, F_Md, 14)]
theorem n_Tm : ∀ a, a < 4 → ∀ b, b < 4 → a ≠ b → (F_Tm a).2.1 ≠ (F_Tm b).2.1 := by decide +kernel
theorem t_Tm_ok : ∀ k, k < 4 → parseFieldDescriptor (F_Tm k).2.2.1 = some (t_Tm k) := by decide +kernel
theorem n_Rw : ∀ a, a < 3 → ∀ b, b < 3 → a ≠ b → (F_Rw a).2.1 ≠ (F_Rw b).2.1 := by decide +kernel
theorem t_Rw_ok : ∀ k, k < 3 → parseFieldDescriptor (F_Rw k).2.2.1 = some (t_Rw k) := by decide +kernel
theorem n_Rt : ∀ a, a < 7 → ∀ b, b < 7 → a ≠ b → (F_Rt a).2.1 ≠ (F_Rt b).2.1 := by decide +kernel
theorem t_Rt_ok : ∀ k, k < 7 → parseFieldDescriptor (F_Rt k).2.2.1 = some (t_Rt k) := by decide +kernel
theorem n_Md : ∀ a, a < 14 → ∀ b, b < 14 → a ≠ b → (F_Md a).2.1 ≠ (F_Md b).2.1 := by decide +kernel
theorem t_Md_ok : ∀ k, k < 14 → parseFieldDescriptor (F_Md k).2.2.1 = some (t_Md k) := by decide +kernel
/-- the words that every method here is given: those of the tables that a call keeps -/
def lw_rest : List Cond := lw_tbl.filter goodWord
theorem lw_good : ∀ w ∈ lw_rest, (w.onTables && w.keeps) = true ∨ ∃ ty, w = .arrayClass ty := fun w h => good_of_word (List.mem_filter.mp h).2
theorem lw_sub : ∀ w ∈ lw_rest, w ∈ lw_tbl := fun w h => (List.mem_filter.mp h).1
theorem lw_in {w : Cond} (i : Nat) (h : lw_tbl[i]? = some w) (g : goodWord w = true) : w ∈ lw_rest := List.mem_filter.mpr ⟨List.mem_of_getElem? h, g⟩
theorem i_Tm : ∀ w ∈ u_ws R_Tm F_Tm 4, w ∈ lw_rest := by
  intro w hw
  obtain ⟨k, hk, rfl⟩ := List.mem_map.mp hw
  have hk2 := List.mem_range.mp hk
  match k, hk2 with
  | 0, _ => exact lw_in 37 rfl rfl
  | 1, _ => exact lw_in 39 rfl rfl
  | 2, _ => exact lw_in 41 rfl rfl
  | 3, _ => exact lw_in 43 rfl rfl
  | k + 4, h => exact absurd h (by omega)
theorem i_Rw : ∀ w ∈ u_ws R_Rw F_Rw 3, w ∈ lw_rest := by
  intro w hw
  obtain ⟨k, hk, rfl⟩ := List.mem_map.mp hw
  have hk2 := List.mem_range.mp hk
  match k, hk2 with
  | 0, _ => exact lw_in 58 rfl rfl
  | 1, _ => exact lw_in 60 rfl rfl
  | 2, _ => exact lw_in 62 rfl rfl
  | k + 3, h => exact absurd h (by omega)
theorem i_Rt : ∀ w ∈ u_ws R_Rt F_Rt 7, w ∈ lw_rest := by
  intro w hw
  obtain ⟨k, hk, rfl⟩ := List.mem_map.mp hw
  have hk2 := List.mem_range.mp hk
  match k, hk2 with
  | 0, _ => exact lw_in 81 rfl rfl
  | 1, _ => exact lw_in 83 rfl rfl
  | 2, _ => exact lw_in 85 rfl rfl
  | 3, _ => exact lw_in 87 rfl rfl
  | 4, _ => exact lw_in 89 rfl rfl
  | 5, _ => exact lw_in 91 rfl rfl
  | 6, _ => exact lw_in 93 rfl rfl
  | k + 7, h => exact absurd h (by omega)
theorem i_Md : ∀ w ∈ u_ws R_Md F_Md 14, w ∈ lw_rest := by
  intro w hw
  obtain ⟨k, hk, rfl⟩ := List.mem_map.mp hw
  have hk2 := List.mem_range.mp hk
  match k, hk2 with
  | 0, _ => exact lw_in 216 rfl rfl
  | 1, _ => exact lw_in 218 rfl rfl
  | 2, _ => exact lw_in 220 rfl rfl
  | 3, _ => exact lw_in 222 rfl rfl
  | 4, _ => exact lw_in 224 rfl rfl
  | 5, _ => exact lw_in 226 rfl rfl
  | 6, _ => exact lw_in 228 rfl rfl
  | 7, _ => exact lw_in 230 rfl rfl
  | 8, _ => exact lw_in 232 rfl rfl
  | 9, _ => exact lw_in 234 rfl rfl
  | 10, _ => exact lw_in 236 rfl rfl
  | 11, _ => exact lw_in 238 rfl rfl
  | 12, _ => exact lw_in 240 rfl rfl
  | 13, _ => exact lw_in 242 rfl rfl
  | k + 14, h => exact absurd h (by omega)
theorem m_0 : Cond.selects "RetiredTimer" ⟨"RetiredTimer", "untilTimer", "()J"⟩ ⟨"RetiredTimer", "untilTimer", "()J"⟩ ∈ lw_rest := lw_in 0 rfl rfl
theorem m_1 : Cond.selects "RetiredTimer" ⟨"RetiredTimer", "is", "(I)Z"⟩ ⟨"RetiredTimer", "is", "(I)Z"⟩ ∈ lw_rest := lw_in 1 rfl rfl
theorem m_2 : Cond.selects "RetiredTimer$Timer" ⟨"RetiredTimer$Timer", "way", "()J"⟩ ⟨"RetiredTimer$Timer", "way", "()J"⟩ ∈ lw_rest := lw_in 2 rfl rfl
theorem m_3 : Cond.selects "RetiredTimer" ⟨"RetiredTimer", "untilLines", "()J"⟩ ⟨"RetiredTimer", "untilLines", "()J"⟩ ∈ lw_rest := lw_in 3 rfl rfl
theorem m_4 : Cond.selects "RetiredTimer" ⟨"RetiredTimer", "due", "()I"⟩ ⟨"RetiredTimer", "due", "()I"⟩ ∈ lw_rest := lw_in 4 rfl rfl
theorem m_5 : Cond.selects "RetiredTimerModel" ⟨"RetiredTimerModel", "goOn", "()V"⟩ ⟨"RetiredTimerModel", "goOn", "()V"⟩ ∈ lw_rest := lw_in 5 rfl rfl
theorem m_6 : Cond.selects "RetiredTimerModel" ⟨"RetiredTimerModel", "due", "()I"⟩ ⟨"RetiredTimerModel", "due", "()I"⟩ ∈ lw_rest := lw_in 6 rfl rfl
theorem m_7 : Cond.selects "RetiredTimerModel" ⟨"RetiredTimerModel", "linesNow", "()I"⟩ ⟨"RetiredTimerModel", "linesNow", "()I"⟩ ∈ lw_rest := lw_in 7 rfl rfl
theorem m_8 : Cond.selects "RetiredTimerModel" ⟨"RetiredTimerModel", "step", "()V"⟩ ⟨"RetiredTimerModel", "step", "()V"⟩ ∈ lw_rest := lw_in 8 rfl rfl
theorem m_9 : Cond.initialized "RetiredTimerLaw" ∈ lw_rest := lw_in 9 rfl rfl
theorem m_10 : Cond.initialized "RetiredTimer" ∈ lw_rest := lw_in 10 rfl rfl
theorem m_11 : Cond.initialized "RetiredTimer$Timer" ∈ lw_rest := lw_in 11 rfl rfl
theorem m_12 : Cond.initialized "RetiredTimer$Row" ∈ lw_rest := lw_in 12 rfl rfl
theorem m_13 : Cond.initialized "RetiredTimerModel" ∈ lw_rest := lw_in 13 rfl rfl
theorem m_14 : Cond.initialized "java/lang/Math" ∈ lw_rest := lw_in 14 rfl rfl
theorem m_15 : Cond.classLink "RetiredTimerLaw" 7 "RetiredTimer" ∈ lw_rest := lw_in 15 rfl rfl
theorem m_16 : Cond.instantiable "RetiredTimer" 7 ∈ lw_rest := lw_in 16 rfl rfl
theorem m_17 : Cond.methodLink "RetiredTimerLaw" 9 ⟨"RetiredTimer", "<init>", "()V"⟩ ∈ lw_rest := lw_in 17 rfl rfl
theorem m_18 : Cond.instanceMethod ⟨"RetiredTimer", "<init>", "()V"⟩ ∈ lw_rest := lw_in 18 rfl rfl
theorem m_19 : Cond.code ⟨"RetiredTimer", "<init>", "()V"⟩ prog_1_method_1_code 1 none ∈ lw_rest := lw_in 19 rfl rfl
theorem m_20 : Cond.methodLink "RetiredTimer" 5 ⟨"java/lang/Object", "<init>", "()V"⟩ ∈ lw_rest := lw_in 20 rfl rfl
theorem m_21 : Cond.instanceMethod ⟨"java/lang/Object", "<init>", "()V"⟩ ∈ lw_rest := lw_in 21 rfl rfl
theorem m_22 : Cond.code ⟨"java/lang/Object", "<init>", "()V"⟩ object_method_1_code 1 none ∈ lw_rest := lw_in 22 rfl rfl
theorem m_23 : Cond.classLink "RetiredTimer" 11 "RetiredTimer$Timer" ∈ lw_rest := lw_in 23 rfl rfl
theorem m_24 : Cond.instantiable "RetiredTimer$Timer" 4 ∈ lw_rest := lw_in 24 rfl rfl
theorem m_26 : Cond.instanceMethod ⟨"RetiredTimer$Timer", "<init>", "()V"⟩ ∈ lw_rest := lw_in 26 rfl rfl
theorem m_27 : Cond.code ⟨"RetiredTimer$Timer", "<init>", "()V"⟩ prog_3_method_1_code 1 none ∈ lw_rest := lw_in 27 rfl rfl
theorem m_28 : Cond.methodLink "RetiredTimer$Timer" 3 ⟨"java/lang/Object", "<init>", "()V"⟩ ∈ lw_rest := lw_in 28 rfl rfl
theorem m_29 : Cond.fieldLink "RetiredTimer$Timer" 9 "RetiredTimer$Timer" "period" "I" ∈ lw_rest := lw_in 29 rfl rfl
theorem m_31 : Cond.fieldLink "RetiredTimer$Timer" 15 "RetiredTimer$Timer" "count" "I" ∈ lw_rest := lw_in 31 rfl rfl
theorem m_33 : Cond.fieldLink "RetiredTimer$Timer" 18 "RetiredTimer$Timer" "counting" "Z" ∈ lw_rest := lw_in 33 rfl rfl
theorem m_35 : Cond.fieldLink "RetiredTimer$Timer" 22 "RetiredTimer$Timer" "pending" "Z" ∈ lw_rest := lw_in 35 rfl rfl
theorem m_46 : Cond.classLink "RetiredTimer" 18 "RetiredTimer$Row" ∈ lw_rest := lw_in 46 rfl rfl
theorem m_47 : Cond.instantiable "RetiredTimer$Row" 3 ∈ lw_rest := lw_in 47 rfl rfl
theorem m_49 : Cond.instanceMethod ⟨"RetiredTimer$Row", "<init>", "()V"⟩ ∈ lw_rest := lw_in 49 rfl rfl
theorem m_50 : Cond.code ⟨"RetiredTimer$Row", "<init>", "()V"⟩ prog_2_method_1_code 1 none ∈ lw_rest := lw_in 50 rfl rfl
theorem m_51 : Cond.methodLink "RetiredTimer$Row" 3 ⟨"java/lang/Object", "<init>", "()V"⟩ ∈ lw_rest := lw_in 51 rfl rfl
theorem m_52 : Cond.fieldLink "RetiredTimer$Row" 9 "RetiredTimer$Row" "counts" "[I" ∈ lw_rest := lw_in 52 rfl rfl
theorem m_54 : Cond.fieldLink "RetiredTimer$Row" 15 "RetiredTimer$Row" "values" "[I" ∈ lw_rest := lw_in 54 rfl rfl
theorem m_56 : Cond.fieldLink "RetiredTimer$Row" 18 "RetiredTimer$Row" "many" "I" ∈ lw_rest := lw_in 56 rfl rfl
theorem m_65 : Cond.arrayClass .int ∈ lw_rest := lw_in 65 rfl rfl
theorem m_66 : Cond.methodLink "RetiredTimer" 25 ⟨"RetiredTimer", "reset", "()V"⟩ ∈ lw_rest := lw_in 66 rfl rfl
theorem m_67 : Cond.instanceMethod ⟨"RetiredTimer", "reset", "()V"⟩ ∈ lw_rest := lw_in 67 rfl rfl
theorem m_68 : Cond.selects "RetiredTimer" ⟨"RetiredTimer", "reset", "()V"⟩ ⟨"RetiredTimer", "reset", "()V"⟩ ∈ lw_rest := lw_in 68 rfl rfl
theorem m_69 : Cond.code ⟨"RetiredTimer", "reset", "()V"⟩ prog_1_method_2_code 1 none ∈ lw_rest := lw_in 69 rfl rfl
theorem m_70 : Cond.methodLink "RetiredTimer" 28 ⟨"RetiredTimer$Timer", "reset", "()V"⟩ ∈ lw_rest := lw_in 70 rfl rfl
theorem m_71 : Cond.instanceMethod ⟨"RetiredTimer$Timer", "reset", "()V"⟩ ∈ lw_rest := lw_in 71 rfl rfl
theorem m_72 : Cond.selects "RetiredTimer$Timer" ⟨"RetiredTimer$Timer", "reset", "()V"⟩ ⟨"RetiredTimer$Timer", "reset", "()V"⟩ ∈ lw_rest := lw_in 72 rfl rfl
theorem m_73 : Cond.code ⟨"RetiredTimer$Timer", "reset", "()V"⟩ prog_3_method_2_code 1 none ∈ lw_rest := lw_in 73 rfl rfl
theorem m_74 : Cond.fieldLink "RetiredTimer" 14 "RetiredTimer" "timer" "LRetiredTimer$Timer;" ∈ lw_rest := lw_in 74 rfl rfl
theorem m_75 : Cond.fieldLink "RetiredTimer" 21 "RetiredTimer" "row" "LRetiredTimer$Row;" ∈ lw_rest := lw_in 75 rfl rfl
theorem m_76 : Cond.fieldLink "RetiredTimer" 33 "RetiredTimer" "retired" "I" ∈ lw_rest := lw_in 76 rfl rfl
theorem m_77 : Cond.fieldLink "RetiredTimer" 36 "RetiredTimer" "mask" "I" ∈ lw_rest := lw_in 77 rfl rfl
theorem m_78 : Cond.fieldLink "RetiredTimer" 39 "RetiredTimer" "sr" "I" ∈ lw_rest := lw_in 78 rfl rfl
theorem m_79 : Cond.fieldLink "RetiredTimer" 42 "RetiredTimer" "saved" "I" ∈ lw_rest := lw_in 79 rfl rfl
theorem m_80 : Cond.fieldLink "RetiredTimer" 45 "RetiredTimer" "taken" "I" ∈ lw_rest := lw_in 80 rfl rfl
theorem m_96 : Cond.methodLink "RetiredTimerLaw" 50 ⟨"RetiredTimer", "reset", "()V"⟩ ∈ lw_rest := lw_in 96 rfl rfl
theorem m_97 : Cond.methodLink "RetiredTimerLaw" 13 ⟨"RetiredTimer", "entry", "(II)Z"⟩ ∈ lw_rest := lw_in 97 rfl rfl
theorem m_98 : Cond.instanceMethod ⟨"RetiredTimer", "entry", "(II)Z"⟩ ∈ lw_rest := lw_in 98 rfl rfl
theorem m_99 : Cond.selects "RetiredTimer" ⟨"RetiredTimer", "entry", "(II)Z"⟩ ⟨"RetiredTimer", "entry", "(II)Z"⟩ ∈ lw_rest := lw_in 99 rfl rfl
theorem m_100 : Cond.code ⟨"RetiredTimer", "entry", "(II)Z"⟩ prog_1_method_7_code 3 (some .boolean) ∈ lw_rest := lw_in 100 rfl rfl
theorem m_101 : Cond.methodLink "RetiredTimer" 67 ⟨"RetiredTimer$Row", "add", "(II)Z"⟩ ∈ lw_rest := lw_in 101 rfl rfl
theorem m_102 : Cond.instanceMethod ⟨"RetiredTimer$Row", "add", "(II)Z"⟩ ∈ lw_rest := lw_in 102 rfl rfl
theorem m_103 : Cond.selects "RetiredTimer$Row" ⟨"RetiredTimer$Row", "add", "(II)Z"⟩ ⟨"RetiredTimer$Row", "add", "(II)Z"⟩ ∈ lw_rest := lw_in 103 rfl rfl
theorem m_104 : Cond.code ⟨"RetiredTimer$Row", "add", "(II)Z"⟩ prog_2_method_2_code 3 (some .boolean) ∈ lw_rest := lw_in 104 rfl rfl
theorem m_105 : Cond.methodLink "RetiredTimerLaw" 18 ⟨"RetiredTimer", "steps", "(I)I"⟩ ∈ lw_rest := lw_in 105 rfl rfl
theorem m_106 : Cond.instanceMethod ⟨"RetiredTimer", "steps", "(I)I"⟩ ∈ lw_rest := lw_in 106 rfl rfl
theorem m_107 : Cond.selects "RetiredTimer" ⟨"RetiredTimer", "steps", "(I)I"⟩ ⟨"RetiredTimer", "steps", "(I)I"⟩ ∈ lw_rest := lw_in 107 rfl rfl
theorem m_108 : Cond.code ⟨"RetiredTimer", "steps", "(I)I"⟩ prog_1_method_8_code 3 (some .int) ∈ lw_rest := lw_in 108 rfl rfl
theorem m_109 : Cond.constantLong "RetiredTimer" 73 2147483647 ∈ lw_rest := lw_in 109 rfl rfl
theorem m_110 : Cond.methodLink "RetiredTimer" 61 ⟨"RetiredTimer", "untilTimer", "()J"⟩ ∈ lw_rest := lw_in 110 rfl rfl
theorem m_112 : Cond.instanceMethod ⟨"RetiredTimer", "untilTimer", "()J"⟩ ∈ lw_rest := lw_in 112 rfl rfl
theorem m_113 : Cond.code ⟨"RetiredTimer", "untilTimer", "()J"⟩ prog_1_method_4_code 1 (some .long) ∈ lw_rest := lw_in 113 rfl rfl
theorem m_114 : Cond.methodLink "RetiredTimer" 48 ⟨"RetiredTimer", "is", "(I)Z"⟩ ∈ lw_rest := lw_in 114 rfl rfl
theorem m_116 : Cond.instanceMethod ⟨"RetiredTimer", "is", "(I)Z"⟩ ∈ lw_rest := lw_in 116 rfl rfl
theorem m_117 : Cond.code ⟨"RetiredTimer", "is", "(I)Z"⟩ prog_1_method_3_code 2 (some .boolean) ∈ lw_rest := lw_in 117 rfl rfl
theorem m_118 : Cond.methodLink "RetiredTimer" 52 ⟨"RetiredTimer$Timer", "until", "()J"⟩ ∈ lw_rest := lw_in 118 rfl rfl
theorem m_119 : Cond.instanceMethod ⟨"RetiredTimer$Timer", "until", "()J"⟩ ∈ lw_rest := lw_in 119 rfl rfl
theorem m_120 : Cond.selects "RetiredTimer$Timer" ⟨"RetiredTimer$Timer", "until", "()J"⟩ ⟨"RetiredTimer$Timer", "until", "()J"⟩ ∈ lw_rest := lw_in 120 rfl rfl
theorem m_121 : Cond.code ⟨"RetiredTimer$Timer", "until", "()J"⟩ prog_3_method_4_code 1 (some .long) ∈ lw_rest := lw_in 121 rfl rfl
theorem m_122 : Cond.methodLink "RetiredTimer$Timer" 29 ⟨"RetiredTimer$Timer", "way", "()J"⟩ ∈ lw_rest := lw_in 122 rfl rfl
theorem m_124 : Cond.instanceMethod ⟨"RetiredTimer$Timer", "way", "()J"⟩ ∈ lw_rest := lw_in 124 rfl rfl
theorem m_125 : Cond.code ⟨"RetiredTimer$Timer", "way", "()J"⟩ prog_3_method_3_code 3 (some .long) ∈ lw_rest := lw_in 125 rfl rfl
theorem m_126 : Cond.constantLong "RetiredTimer$Timer" 25 4294967295 ∈ lw_rest := lw_in 126 rfl rfl
theorem m_127 : Cond.constantLong "RetiredTimer$Timer" 27 4294967296 ∈ lw_rest := lw_in 127 rfl rfl
theorem m_128 : Cond.constantLong "RetiredTimer$Timer" 33 9223372036854775807 ∈ lw_rest := lw_in 128 rfl rfl
theorem m_129 : Cond.constantLong "RetiredTimer" 56 9223372036854775807 ∈ lw_rest := lw_in 129 rfl rfl
theorem m_130 : Cond.methodLink "RetiredTimer" 64 ⟨"RetiredTimer", "untilLines", "()J"⟩ ∈ lw_rest := lw_in 130 rfl rfl
theorem m_132 : Cond.instanceMethod ⟨"RetiredTimer", "untilLines", "()J"⟩ ∈ lw_rest := lw_in 132 rfl rfl
theorem m_133 : Cond.code ⟨"RetiredTimer", "untilLines", "()J"⟩ prog_1_method_5_code 1 (some .long) ∈ lw_rest := lw_in 133 rfl rfl
theorem m_134 : Cond.methodLink "RetiredTimer" 58 ⟨"RetiredTimer$Row", "until", "(II)J"⟩ ∈ lw_rest := lw_in 134 rfl rfl
theorem m_135 : Cond.instanceMethod ⟨"RetiredTimer$Row", "until", "(II)J"⟩ ∈ lw_rest := lw_in 135 rfl rfl
theorem m_136 : Cond.selects "RetiredTimer$Row" ⟨"RetiredTimer$Row", "until", "(II)J"⟩ ⟨"RetiredTimer$Row", "until", "(II)J"⟩ ∈ lw_rest := lw_in 136 rfl rfl
theorem m_137 : Cond.code ⟨"RetiredTimer$Row", "until", "(II)J"⟩ prog_2_method_4_code 4 (some .long) ∈ lw_rest := lw_in 137 rfl rfl
theorem m_138 : Cond.methodLink "RetiredTimer$Row" 22 ⟨"RetiredTimer$Row", "at", "(I)I"⟩ ∈ lw_rest := lw_in 138 rfl rfl
theorem m_139 : Cond.instanceMethod ⟨"RetiredTimer$Row", "at", "(I)I"⟩ ∈ lw_rest := lw_in 139 rfl rfl
theorem m_140 : Cond.selects "RetiredTimer$Row" ⟨"RetiredTimer$Row", "at", "(I)I"⟩ ⟨"RetiredTimer$Row", "at", "(I)I"⟩ ∈ lw_rest := lw_in 140 rfl rfl
theorem m_141 : Cond.code ⟨"RetiredTimer$Row", "at", "(I)I"⟩ prog_2_method_3_code 5 (some .int) ∈ lw_rest := lw_in 141 rfl rfl
theorem m_142 : Cond.constantLong "RetiredTimer$Row" 26 9223372036854775807 ∈ lw_rest := lw_in 142 rfl rfl
theorem m_143 : Cond.methodLink "RetiredTimer" 75 ⟨"java/lang/Math", "min", "(JJ)J"⟩ ∈ lw_rest := lw_in 143 rfl rfl
theorem m_144 : Cond.static ⟨"java/lang/Math", "min", "(JJ)J"⟩ ∈ lw_rest := lw_in 144 rfl rfl
theorem m_145 : Cond.code ⟨"java/lang/Math", "min", "(JJ)J"⟩ prog_6_method_70_code 4 (some .long) ∈ lw_rest := lw_in 145 rfl rfl
theorem m_146 : Cond.methodLink "RetiredTimer" 81 ⟨"RetiredTimer$Timer", "leap", "(J)V"⟩ ∈ lw_rest := lw_in 146 rfl rfl
theorem m_147 : Cond.instanceMethod ⟨"RetiredTimer$Timer", "leap", "(J)V"⟩ ∈ lw_rest := lw_in 147 rfl rfl
theorem m_148 : Cond.selects "RetiredTimer$Timer" ⟨"RetiredTimer$Timer", "leap", "(J)V"⟩ ⟨"RetiredTimer$Timer", "leap", "(J)V"⟩ ∈ lw_rest := lw_in 148 rfl rfl
theorem m_149 : Cond.code ⟨"RetiredTimer$Timer", "leap", "(J)V"⟩ prog_3_method_5_code 7 none ∈ lw_rest := lw_in 149 rfl rfl
theorem m_150 : Cond.methodLink "RetiredTimerLaw" 23 ⟨"RetiredTimer", "take", "()I"⟩ ∈ lw_rest := lw_in 150 rfl rfl
theorem m_151 : Cond.instanceMethod ⟨"RetiredTimer", "take", "()I"⟩ ∈ lw_rest := lw_in 151 rfl rfl
theorem m_152 : Cond.selects "RetiredTimer" ⟨"RetiredTimer", "take", "()I"⟩ ⟨"RetiredTimer", "take", "()I"⟩ ∈ lw_rest := lw_in 152 rfl rfl
theorem m_153 : Cond.code ⟨"RetiredTimer", "take", "()I"⟩ prog_1_method_9_code 2 (some .int) ∈ lw_rest := lw_in 153 rfl rfl
theorem m_154 : Cond.methodLink "RetiredTimer" 85 ⟨"RetiredTimer", "due", "()I"⟩ ∈ lw_rest := lw_in 154 rfl rfl
theorem m_156 : Cond.instanceMethod ⟨"RetiredTimer", "due", "()I"⟩ ∈ lw_rest := lw_in 156 rfl rfl
theorem m_157 : Cond.code ⟨"RetiredTimer", "due", "()I"⟩ prog_1_method_6_code 1 (some .int) ∈ lw_rest := lw_in 157 rfl rfl
theorem m_158 : Cond.methodLink "RetiredTimerLaw" 28 ⟨"RetiredTimer", "back", "()V"⟩ ∈ lw_rest := lw_in 158 rfl rfl
theorem m_159 : Cond.instanceMethod ⟨"RetiredTimer", "back", "()V"⟩ ∈ lw_rest := lw_in 159 rfl rfl
theorem m_160 : Cond.selects "RetiredTimer" ⟨"RetiredTimer", "back", "()V"⟩ ⟨"RetiredTimer", "back", "()V"⟩ ∈ lw_rest := lw_in 160 rfl rfl
theorem m_161 : Cond.code ⟨"RetiredTimer", "back", "()V"⟩ prog_1_method_10_code 1 none ∈ lw_rest := lw_in 161 rfl rfl
theorem m_162 : Cond.methodLink "RetiredTimerLaw" 32 ⟨"RetiredTimer", "mode", "(I)V"⟩ ∈ lw_rest := lw_in 162 rfl rfl
theorem m_163 : Cond.instanceMethod ⟨"RetiredTimer", "mode", "(I)V"⟩ ∈ lw_rest := lw_in 163 rfl rfl
theorem m_164 : Cond.selects "RetiredTimer" ⟨"RetiredTimer", "mode", "(I)V"⟩ ⟨"RetiredTimer", "mode", "(I)V"⟩ ∈ lw_rest := lw_in 164 rfl rfl
theorem m_165 : Cond.code ⟨"RetiredTimer", "mode", "(I)V"⟩ prog_1_method_11_code 2 none ∈ lw_rest := lw_in 165 rfl rfl
theorem m_166 : Cond.methodLink "RetiredTimerLaw" 37 ⟨"RetiredTimer", "mask", "(I)V"⟩ ∈ lw_rest := lw_in 166 rfl rfl
theorem m_167 : Cond.instanceMethod ⟨"RetiredTimer", "mask", "(I)V"⟩ ∈ lw_rest := lw_in 167 rfl rfl
theorem m_168 : Cond.selects "RetiredTimer" ⟨"RetiredTimer", "mask", "(I)V"⟩ ⟨"RetiredTimer", "mask", "(I)V"⟩ ∈ lw_rest := lw_in 168 rfl rfl
theorem m_169 : Cond.code ⟨"RetiredTimer", "mask", "(I)V"⟩ prog_1_method_12_code 2 none ∈ lw_rest := lw_in 169 rfl rfl
theorem m_170 : Cond.methodLink "RetiredTimerLaw" 41 ⟨"RetiredTimer", "timer", "(IZZ)V"⟩ ∈ lw_rest := lw_in 170 rfl rfl
theorem m_171 : Cond.instanceMethod ⟨"RetiredTimer", "timer", "(IZZ)V"⟩ ∈ lw_rest := lw_in 171 rfl rfl
theorem m_172 : Cond.selects "RetiredTimer" ⟨"RetiredTimer", "timer", "(IZZ)V"⟩ ⟨"RetiredTimer", "timer", "(IZZ)V"⟩ ∈ lw_rest := lw_in 172 rfl rfl
theorem m_173 : Cond.code ⟨"RetiredTimer", "timer", "(IZZ)V"⟩ prog_1_method_13_code 4 none ∈ lw_rest := lw_in 173 rfl rfl
theorem m_174 : Cond.constant "RetiredTimer" 89 268435455 ∈ lw_rest := lw_in 174 rfl rfl
theorem m_175 : Cond.methodLink "RetiredTimerLaw" 46 ⟨"RetiredTimer", "count", "(I)V"⟩ ∈ lw_rest := lw_in 175 rfl rfl
theorem m_176 : Cond.instanceMethod ⟨"RetiredTimer", "count", "(I)V"⟩ ∈ lw_rest := lw_in 176 rfl rfl
theorem m_177 : Cond.selects "RetiredTimer" ⟨"RetiredTimer", "count", "(I)V"⟩ ⟨"RetiredTimer", "count", "(I)V"⟩ ∈ lw_rest := lw_in 177 rfl rfl
theorem m_178 : Cond.code ⟨"RetiredTimer", "count", "(I)V"⟩ prog_1_method_14_code 2 none ∈ lw_rest := lw_in 178 rfl rfl
theorem m_179 : Cond.methodLink "RetiredTimerLaw" 54 ⟨"RetiredTimer", "until", "()I"⟩ ∈ lw_rest := lw_in 179 rfl rfl
theorem m_180 : Cond.instanceMethod ⟨"RetiredTimer", "until", "()I"⟩ ∈ lw_rest := lw_in 180 rfl rfl
theorem m_181 : Cond.selects "RetiredTimer" ⟨"RetiredTimer", "until", "()I"⟩ ⟨"RetiredTimer", "until", "()I"⟩ ∈ lw_rest := lw_in 181 rfl rfl
theorem m_182 : Cond.code ⟨"RetiredTimer", "until", "()I"⟩ prog_1_method_15_code 3 (some .int) ∈ lw_rest := lw_in 182 rfl rfl
theorem m_183 : Cond.methodLink "RetiredTimerLaw" 58 ⟨"RetiredTimer", "linesAt", "(I)I"⟩ ∈ lw_rest := lw_in 183 rfl rfl
theorem m_184 : Cond.instanceMethod ⟨"RetiredTimer", "linesAt", "(I)I"⟩ ∈ lw_rest := lw_in 184 rfl rfl
theorem m_185 : Cond.selects "RetiredTimer" ⟨"RetiredTimer", "linesAt", "(I)I"⟩ ⟨"RetiredTimer", "linesAt", "(I)I"⟩ ∈ lw_rest := lw_in 185 rfl rfl
theorem m_186 : Cond.code ⟨"RetiredTimer", "linesAt", "(I)I"⟩ prog_1_method_16_code 2 (some .int) ∈ lw_rest := lw_in 186 rfl rfl
theorem m_187 : Cond.methodLink "RetiredTimer" 103 ⟨"RetiredTimer$Row", "at", "(I)I"⟩ ∈ lw_rest := lw_in 187 rfl rfl
theorem m_188 : Cond.methodLink "RetiredTimerLaw" 62 ⟨"RetiredTimer", "entryOf", "(IZ)I"⟩ ∈ lw_rest := lw_in 188 rfl rfl
theorem m_189 : Cond.instanceMethod ⟨"RetiredTimer", "entryOf", "(IZ)I"⟩ ∈ lw_rest := lw_in 189 rfl rfl
theorem m_190 : Cond.selects "RetiredTimer" ⟨"RetiredTimer", "entryOf", "(IZ)I"⟩ ⟨"RetiredTimer", "entryOf", "(IZ)I"⟩ ∈ lw_rest := lw_in 190 rfl rfl
theorem m_191 : Cond.code ⟨"RetiredTimer", "entryOf", "(IZ)I"⟩ prog_1_method_17_code 3 (some .int) ∈ lw_rest := lw_in 191 rfl rfl
theorem m_192 : Cond.methodLink "RetiredTimerLaw" 67 ⟨"RetiredTimer", "look", "(I)I"⟩ ∈ lw_rest := lw_in 192 rfl rfl
theorem m_193 : Cond.instanceMethod ⟨"RetiredTimer", "look", "(I)I"⟩ ∈ lw_rest := lw_in 193 rfl rfl
theorem m_194 : Cond.selects "RetiredTimer" ⟨"RetiredTimer", "look", "(I)I"⟩ ⟨"RetiredTimer", "look", "(I)I"⟩ ∈ lw_rest := lw_in 194 rfl rfl
theorem m_195 : Cond.code ⟨"RetiredTimer", "look", "(I)I"⟩ prog_1_method_18_code 2 (some .int) ∈ lw_rest := lw_in 195 rfl rfl
theorem m_196 : Cond.classLink "RetiredTimerLaw" 10 "RetiredTimerModel" ∈ lw_rest := lw_in 196 rfl rfl
theorem m_197 : Cond.instantiable "RetiredTimerModel" 14 ∈ lw_rest := lw_in 197 rfl rfl
theorem m_198 : Cond.methodLink "RetiredTimerLaw" 12 ⟨"RetiredTimerModel", "<init>", "()V"⟩ ∈ lw_rest := lw_in 198 rfl rfl
theorem m_199 : Cond.instanceMethod ⟨"RetiredTimerModel", "<init>", "()V"⟩ ∈ lw_rest := lw_in 199 rfl rfl
theorem m_200 : Cond.code ⟨"RetiredTimerModel", "<init>", "()V"⟩ prog_5_method_1_code 1 none ∈ lw_rest := lw_in 200 rfl rfl
theorem m_201 : Cond.methodLink "RetiredTimerModel" 1 ⟨"java/lang/Object", "<init>", "()V"⟩ ∈ lw_rest := lw_in 201 rfl rfl
theorem m_202 : Cond.fieldLink "RetiredTimerModel" 20 "RetiredTimerModel" "thrown" "I" ∈ lw_rest := lw_in 202 rfl rfl
theorem m_203 : Cond.fieldLink "RetiredTimerModel" 29 "RetiredTimerModel" "retired" "I" ∈ lw_rest := lw_in 203 rfl rfl
theorem m_204 : Cond.fieldLink "RetiredTimerModel" 49 "RetiredTimerModel" "count" "I" ∈ lw_rest := lw_in 204 rfl rfl
theorem m_205 : Cond.fieldLink "RetiredTimerModel" 52 "RetiredTimerModel" "period" "I" ∈ lw_rest := lw_in 205 rfl rfl
theorem m_206 : Cond.fieldLink "RetiredTimerModel" 46 "RetiredTimerModel" "counting" "Z" ∈ lw_rest := lw_in 206 rfl rfl
theorem m_207 : Cond.fieldLink "RetiredTimerModel" 32 "RetiredTimerModel" "pending" "Z" ∈ lw_rest := lw_in 207 rfl rfl
theorem m_208 : Cond.fieldLink "RetiredTimerModel" 40 "RetiredTimerModel" "mask" "I" ∈ lw_rest := lw_in 208 rfl rfl
theorem m_209 : Cond.fieldLink "RetiredTimerModel" 7 "RetiredTimerModel" "sr" "I" ∈ lw_rest := lw_in 209 rfl rfl
theorem m_210 : Cond.fieldLink "RetiredTimerModel" 62 "RetiredTimerModel" "saved" "I" ∈ lw_rest := lw_in 210 rfl rfl
theorem m_211 : Cond.fieldLink "RetiredTimerModel" 65 "RetiredTimerModel" "taken" "I" ∈ lw_rest := lw_in 211 rfl rfl
theorem m_212 : Cond.fieldLink "RetiredTimerModel" 13 "RetiredTimerModel" "counts" "[I" ∈ lw_rest := lw_in 212 rfl rfl
theorem m_213 : Cond.fieldLink "RetiredTimerModel" 17 "RetiredTimerModel" "values" "[I" ∈ lw_rest := lw_in 213 rfl rfl
theorem m_214 : Cond.fieldLink "RetiredTimerModel" 26 "RetiredTimerModel" "entries" "I" ∈ lw_rest := lw_in 214 rfl rfl
theorem m_215 : Cond.fieldLink "RetiredTimerModel" 23 "RetiredTimerModel" "come" "I" ∈ lw_rest := lw_in 215 rfl rfl
theorem m_245 : Cond.methodLink "RetiredTimerLaw" 17 ⟨"RetiredTimerModel", "entry", "(II)Z"⟩ ∈ lw_rest := lw_in 245 rfl rfl
theorem m_246 : Cond.instanceMethod ⟨"RetiredTimerModel", "entry", "(II)Z"⟩ ∈ lw_rest := lw_in 246 rfl rfl
theorem m_247 : Cond.selects "RetiredTimerModel" ⟨"RetiredTimerModel", "entry", "(II)Z"⟩ ⟨"RetiredTimerModel", "entry", "(II)Z"⟩ ∈ lw_rest := lw_in 247 rfl rfl
theorem m_248 : Cond.code ⟨"RetiredTimerModel", "entry", "(II)Z"⟩ prog_5_method_6_code 3 (some .boolean) ∈ lw_rest := lw_in 248 rfl rfl
theorem m_249 : Cond.methodLink "RetiredTimerModel" 43 ⟨"RetiredTimerModel", "goOn", "()V"⟩ ∈ lw_rest := lw_in 249 rfl rfl
theorem m_251 : Cond.instanceMethod ⟨"RetiredTimerModel", "goOn", "()V"⟩ ∈ lw_rest := lw_in 251 rfl rfl
theorem m_252 : Cond.code ⟨"RetiredTimerModel", "goOn", "()V"⟩ prog_5_method_3_code 1 none ∈ lw_rest := lw_in 252 rfl rfl
theorem m_253 : Cond.methodLink "RetiredTimerLaw" 22 ⟨"RetiredTimerModel", "steps", "(I)I"⟩ ∈ lw_rest := lw_in 253 rfl rfl
theorem m_254 : Cond.instanceMethod ⟨"RetiredTimerModel", "steps", "(I)I"⟩ ∈ lw_rest := lw_in 254 rfl rfl
theorem m_255 : Cond.selects "RetiredTimerModel" ⟨"RetiredTimerModel", "steps", "(I)I"⟩ ⟨"RetiredTimerModel", "steps", "(I)I"⟩ ∈ lw_rest := lw_in 255 rfl rfl
theorem m_256 : Cond.code ⟨"RetiredTimerModel", "steps", "(I)I"⟩ prog_5_method_8_code 3 (some .int) ∈ lw_rest := lw_in 256 rfl rfl
theorem m_257 : Cond.constant "RetiredTimerModel" 55 2147483647 ∈ lw_rest := lw_in 257 rfl rfl
theorem m_258 : Cond.methodLink "RetiredTimerModel" 56 ⟨"RetiredTimerModel", "due", "()I"⟩ ∈ lw_rest := lw_in 258 rfl rfl
theorem m_260 : Cond.instanceMethod ⟨"RetiredTimerModel", "due", "()I"⟩ ∈ lw_rest := lw_in 260 rfl rfl
theorem m_261 : Cond.code ⟨"RetiredTimerModel", "due", "()I"⟩ prog_5_method_5_code 1 (some .int) ∈ lw_rest := lw_in 261 rfl rfl
theorem m_262 : Cond.methodLink "RetiredTimerModel" 36 ⟨"RetiredTimerModel", "linesNow", "()I"⟩ ∈ lw_rest := lw_in 262 rfl rfl
theorem m_264 : Cond.instanceMethod ⟨"RetiredTimerModel", "linesNow", "()I"⟩ ∈ lw_rest := lw_in 264 rfl rfl
theorem m_265 : Cond.code ⟨"RetiredTimerModel", "linesNow", "()I"⟩ prog_5_method_4_code 1 (some .int) ∈ lw_rest := lw_in 265 rfl rfl
theorem m_266 : Cond.methodLink "RetiredTimerModel" 59 ⟨"RetiredTimerModel", "step", "()V"⟩ ∈ lw_rest := lw_in 266 rfl rfl
theorem m_268 : Cond.instanceMethod ⟨"RetiredTimerModel", "step", "()V"⟩ ∈ lw_rest := lw_in 268 rfl rfl
theorem m_269 : Cond.code ⟨"RetiredTimerModel", "step", "()V"⟩ prog_5_method_7_code 1 none ∈ lw_rest := lw_in 269 rfl rfl
theorem m_270 : Cond.methodLink "RetiredTimerLaw" 27 ⟨"RetiredTimerModel", "take", "()I"⟩ ∈ lw_rest := lw_in 270 rfl rfl
theorem m_271 : Cond.instanceMethod ⟨"RetiredTimerModel", "take", "()I"⟩ ∈ lw_rest := lw_in 271 rfl rfl
theorem m_272 : Cond.selects "RetiredTimerModel" ⟨"RetiredTimerModel", "take", "()I"⟩ ⟨"RetiredTimerModel", "take", "()I"⟩ ∈ lw_rest := lw_in 272 rfl rfl
theorem m_273 : Cond.code ⟨"RetiredTimerModel", "take", "()I"⟩ prog_5_method_9_code 2 (some .int) ∈ lw_rest := lw_in 273 rfl rfl
theorem m_274 : Cond.methodLink "RetiredTimerLaw" 31 ⟨"RetiredTimerModel", "back", "()V"⟩ ∈ lw_rest := lw_in 274 rfl rfl
theorem m_275 : Cond.instanceMethod ⟨"RetiredTimerModel", "back", "()V"⟩ ∈ lw_rest := lw_in 275 rfl rfl
theorem m_276 : Cond.selects "RetiredTimerModel" ⟨"RetiredTimerModel", "back", "()V"⟩ ⟨"RetiredTimerModel", "back", "()V"⟩ ∈ lw_rest := lw_in 276 rfl rfl
theorem m_277 : Cond.code ⟨"RetiredTimerModel", "back", "()V"⟩ prog_5_method_10_code 1 none ∈ lw_rest := lw_in 277 rfl rfl
theorem m_278 : Cond.methodLink "RetiredTimerLaw" 36 ⟨"RetiredTimerModel", "mode", "(I)V"⟩ ∈ lw_rest := lw_in 278 rfl rfl
theorem m_279 : Cond.instanceMethod ⟨"RetiredTimerModel", "mode", "(I)V"⟩ ∈ lw_rest := lw_in 279 rfl rfl
theorem m_280 : Cond.selects "RetiredTimerModel" ⟨"RetiredTimerModel", "mode", "(I)V"⟩ ⟨"RetiredTimerModel", "mode", "(I)V"⟩ ∈ lw_rest := lw_in 280 rfl rfl
theorem m_281 : Cond.code ⟨"RetiredTimerModel", "mode", "(I)V"⟩ prog_5_method_11_code 2 none ∈ lw_rest := lw_in 281 rfl rfl
theorem m_282 : Cond.methodLink "RetiredTimerLaw" 40 ⟨"RetiredTimerModel", "mask", "(I)V"⟩ ∈ lw_rest := lw_in 282 rfl rfl
theorem m_283 : Cond.instanceMethod ⟨"RetiredTimerModel", "mask", "(I)V"⟩ ∈ lw_rest := lw_in 283 rfl rfl
theorem m_284 : Cond.selects "RetiredTimerModel" ⟨"RetiredTimerModel", "mask", "(I)V"⟩ ⟨"RetiredTimerModel", "mask", "(I)V"⟩ ∈ lw_rest := lw_in 284 rfl rfl
theorem m_285 : Cond.code ⟨"RetiredTimerModel", "mask", "(I)V"⟩ prog_5_method_12_code 2 none ∈ lw_rest := lw_in 285 rfl rfl
theorem m_286 : Cond.methodLink "RetiredTimerLaw" 45 ⟨"RetiredTimerModel", "timer", "(IZZ)V"⟩ ∈ lw_rest := lw_in 286 rfl rfl
theorem m_287 : Cond.instanceMethod ⟨"RetiredTimerModel", "timer", "(IZZ)V"⟩ ∈ lw_rest := lw_in 287 rfl rfl
theorem m_288 : Cond.selects "RetiredTimerModel" ⟨"RetiredTimerModel", "timer", "(IZZ)V"⟩ ⟨"RetiredTimerModel", "timer", "(IZZ)V"⟩ ∈ lw_rest := lw_in 288 rfl rfl
theorem m_289 : Cond.code ⟨"RetiredTimerModel", "timer", "(IZZ)V"⟩ prog_5_method_13_code 4 none ∈ lw_rest := lw_in 289 rfl rfl
theorem m_290 : Cond.constant "RetiredTimerModel" 68 268435455 ∈ lw_rest := lw_in 290 rfl rfl
theorem m_291 : Cond.methodLink "RetiredTimerLaw" 49 ⟨"RetiredTimerModel", "count", "(I)V"⟩ ∈ lw_rest := lw_in 291 rfl rfl
theorem m_292 : Cond.instanceMethod ⟨"RetiredTimerModel", "count", "(I)V"⟩ ∈ lw_rest := lw_in 292 rfl rfl
theorem m_293 : Cond.selects "RetiredTimerModel" ⟨"RetiredTimerModel", "count", "(I)V"⟩ ⟨"RetiredTimerModel", "count", "(I)V"⟩ ∈ lw_rest := lw_in 293 rfl rfl
theorem m_294 : Cond.code ⟨"RetiredTimerModel", "count", "(I)V"⟩ prog_5_method_14_code 2 none ∈ lw_rest := lw_in 294 rfl rfl
theorem m_295 : Cond.methodLink "RetiredTimerLaw" 53 ⟨"RetiredTimerModel", "reset", "()V"⟩ ∈ lw_rest := lw_in 295 rfl rfl
theorem m_296 : Cond.instanceMethod ⟨"RetiredTimerModel", "reset", "()V"⟩ ∈ lw_rest := lw_in 296 rfl rfl
theorem m_297 : Cond.selects "RetiredTimerModel" ⟨"RetiredTimerModel", "reset", "()V"⟩ ⟨"RetiredTimerModel", "reset", "()V"⟩ ∈ lw_rest := lw_in 297 rfl rfl
theorem m_298 : Cond.code ⟨"RetiredTimerModel", "reset", "()V"⟩ prog_5_method_15_code 1 none ∈ lw_rest := lw_in 298 rfl rfl
theorem m_299 : Cond.methodLink "RetiredTimerLaw" 57 ⟨"RetiredTimerModel", "until", "()I"⟩ ∈ lw_rest := lw_in 299 rfl rfl
theorem m_300 : Cond.instanceMethod ⟨"RetiredTimerModel", "until", "()I"⟩ ∈ lw_rest := lw_in 300 rfl rfl
theorem m_301 : Cond.selects "RetiredTimerModel" ⟨"RetiredTimerModel", "until", "()I"⟩ ⟨"RetiredTimerModel", "until", "()I"⟩ ∈ lw_rest := lw_in 301 rfl rfl
theorem m_302 : Cond.code ⟨"RetiredTimerModel", "until", "()I"⟩ prog_5_method_16_code 6 (some .int) ∈ lw_rest := lw_in 302 rfl rfl
theorem m_303 : Cond.constantLong "RetiredTimerModel" 69 1099511627776 ∈ lw_rest := lw_in 303 rfl rfl
theorem m_304 : Cond.constantLong "RetiredTimerModel" 71 4294967296 ∈ lw_rest := lw_in 304 rfl rfl
theorem m_305 : Cond.constantLong "RetiredTimerModel" 73 2147483647 ∈ lw_rest := lw_in 305 rfl rfl
theorem m_306 : Cond.methodLink "RetiredTimerLaw" 61 ⟨"RetiredTimerModel", "linesAt", "(I)I"⟩ ∈ lw_rest := lw_in 306 rfl rfl
theorem m_307 : Cond.instanceMethod ⟨"RetiredTimerModel", "linesAt", "(I)I"⟩ ∈ lw_rest := lw_in 307 rfl rfl
theorem m_308 : Cond.selects "RetiredTimerModel" ⟨"RetiredTimerModel", "linesAt", "(I)I"⟩ ⟨"RetiredTimerModel", "linesAt", "(I)I"⟩ ∈ lw_rest := lw_in 308 rfl rfl
theorem m_309 : Cond.code ⟨"RetiredTimerModel", "linesAt", "(I)I"⟩ prog_5_method_17_code 4 (some .int) ∈ lw_rest := lw_in 309 rfl rfl
theorem m_310 : Cond.methodLink "RetiredTimerLaw" 66 ⟨"RetiredTimerModel", "entryOf", "(IZ)I"⟩ ∈ lw_rest := lw_in 310 rfl rfl
theorem m_311 : Cond.instanceMethod ⟨"RetiredTimerModel", "entryOf", "(IZ)I"⟩ ∈ lw_rest := lw_in 311 rfl rfl
theorem m_312 : Cond.selects "RetiredTimerModel" ⟨"RetiredTimerModel", "entryOf", "(IZ)I"⟩ ⟨"RetiredTimerModel", "entryOf", "(IZ)I"⟩ ∈ lw_rest := lw_in 312 rfl rfl
theorem m_313 : Cond.code ⟨"RetiredTimerModel", "entryOf", "(IZ)I"⟩ prog_5_method_18_code 3 (some .int) ∈ lw_rest := lw_in 313 rfl rfl
theorem m_314 : Cond.methodLink "RetiredTimerLaw" 70 ⟨"RetiredTimerModel", "look", "(I)I"⟩ ∈ lw_rest := lw_in 314 rfl rfl
theorem m_315 : Cond.instanceMethod ⟨"RetiredTimerModel", "look", "(I)I"⟩ ∈ lw_rest := lw_in 315 rfl rfl
theorem m_316 : Cond.selects "RetiredTimerModel" ⟨"RetiredTimerModel", "look", "(I)I"⟩ ⟨"RetiredTimerModel", "look", "(I)I"⟩ ∈ lw_rest := lw_in 316 rfl rfl
theorem m_317 : Cond.code ⟨"RetiredTimerModel", "look", "(I)I"⟩ prog_5_method_19_code 2 (some .int) ∈ lw_rest := lw_in 317 rfl rfl
end
section
/-! generic rows: one frame for all contracts of this claim -/
-- the links to the nest mates of RetiredTimer
def rt_nest : List Cond := [.methodLinkNest R_Rt 13 y_Tm_init R_Rt, .methodLinkNest R_Rt 20 y_Rw_init R_Rt, .fieldLinkNest R_Rt 90 R_Tm "period" "I" R_Rt, .fieldLinkNest R_Rt 100 R_Tm "count" "I" R_Rt, .fieldLinkNest R_Rt 93 R_Tm "counting" "Z" R_Rt, .fieldLinkNest R_Rt 97 R_Tm "pending" "Z" R_Rt, .fieldLinkNest R_Rt 111 R_Rw "counts" "[I" R_Rt, .fieldLinkNest R_Rt 107 R_Rw "values" "[I" R_Rt, .fieldLinkNest R_Rt 29 R_Rw "many" "I" R_Rt]
def rt_N (U : State) : Prop := ∀ w ∈ rt_nest, va_Nw w U
theorem rt_N.warm {s U : State} (hW : s.WarmedH U.vm) (h : rt_N s) : rt_N U := by
  intro w hw
  have h0 := h w hw
  unfold rt_nest at hw
  simp only [List.mem_cons, List.not_mem_nil, or_false] at hw
  rcases hw with rfl | rfl | rfl | rfl | rfl | rfl | rfl | rfl | rfl <;> first | exact va_Nw.warmM hW h0 | exact va_Nw.warmF hW h0
theorem rt_N.same {u U : State} (hvm : u.vm = U.vm) (h : rt_N u) : rt_N U := by
  intro w hw
  have h0 := h w hw
  unfold rt_nest at hw
  simp only [List.mem_cons, List.not_mem_nil, or_false] at hw
  rcases hw with rfl | rfl | rfl | rfl | rfl | rfl | rfl | rfl | rfl <;> exact va_Nw.same rfl hvm h0
theorem rt_N.at {s : State} {args : Array Value} (h : rt_N s) (i : Nat) {w : Cond} (hi : rt_nest[i]? = some w) (ho : w.onTables = true) : w.before args s = true := va_Nw.use ho (h w (List.mem_of_getElem? hi))
def rt_B (dC : Nat → ClassId) (dI : Nat → Nat → Nat) (tys : List (ClassId × FieldType)) (ws : va_W) (sz : Nat) (U : State) : Prop := U.heap.size = sz ∧ va_P (dC, dI) classes ws U.heap ∧ va_K (dC, dI) classes tys U ∧ va_D (fun _ => True) ws ∧ rt_N U
def rt_E (dC : Nat → ClassId) (dI : Nat → Nat → Nat) (tys : List (ClassId × FieldType)) (A : Nat → Prop) (ws : va_W) (t : State) : Prop := va_P (dC, dI) classes ws t.heap ∧ va_K (dC, dI) classes tys t ∧ va_D A ws
theorem rt_blind {av : List Value} {dC : Nat → ClassId} {dI : Nat → Nat → Nat} {tys : List (ClassId × FieldType)} {ws : va_W} {sz : Nat} : FrameBlind (va_Pc av (rt_B dC dI tys ws sz)) := by
  intro a U g mk q
  obtain ⟨q0, q1, qP, qK, qD, qN⟩ := q
  exact ⟨q0, q1, qP, va_K.moved (u := U) (U := U.calling g mk a) (Vm.Alike.refl U.vm) qK, qD, rt_N.same (u := U) (U := U.calling g mk a) rfl qN⟩
theorem rt_preS {s : State} {H : Heap} {av : List Value} {dC : Nat → ClassId} {dI : Nat → Nat → Nat} {tys : List (ClassId × FieldType)} {ws : va_W} {A : Nat → Prop} (hP : va_P (dC, dI) classes ws H) (hK : va_K (dC, dI) classes tys s) (hD : va_D A ws) (hN : rt_N s) : PreS s H (va_Pc av (rt_B dC dI tys ws H.size)) av :=
  ⟨rt_blind, fun U hU hW => ⟨rfl, by rw [hU], by rw [hU]; exact hP, va_K.moved hW.alike hK, hD.weaken (fun _ _ _ _ => trivial), rt_N.warm hW hN⟩⟩
theorem rt_preV {s : State} {H : Heap} {C : String} {T : u_T} {N ci b : Nat} {fs As : List Value} {dC : Nat → ClassId} {dI : Nat → Nat → Nat} {tys : List (ClassId × FieldType)} {ws : va_W} {A : Nat → Prop} (hP : va_P (dC, dI) classes ws H) (hK : va_K (dC, dI) classes tys s) (hD : va_D A ws) (hN : rt_N s) (hc : classes[ci]? = some (C, T, N)) (he : ws[0]? = some (b, .inr (ci, fs))) : PreV s H C b (va_Pc (.ref b :: As) (rt_B dC dI tys ws H.size)) As :=
  ⟨rt_blind, va_recv hK hP hc he, (rt_preS (av := .ref b :: As) hP hK hD hN).2⟩
theorem rt_gV {own : String} {index : Nat} {C : String} {y : MethodName} {cy : Cond} (h1 : Cond.methodLink own index y ∈ lw_rest) (h2 : Cond.instanceMethod y ∈ lw_rest) (h3 : Cond.selects C y y ∈ lw_rest) (h4 : Cond.initialized C ∈ lw_rest) (h5 : cy ∈ lw_rest) : GoodIn lw_rest (wsV own index C y (cy :: lw_rest)) := by
  intro w hw
  have h : w ∈ lw_rest := by
    unfold wsV at hw
    simp only [List.cons_append, List.nil_append, List.mem_cons] at hw
    rcases hw with rfl | rfl | rfl | rfl | rfl | h
    · exact h1
    · exact h2
    · exact h3
    · exact h4
    · exact h5
    · exact h
  exact ⟨h, lw_good w h⟩
theorem rt_gI {cy : Cond} (h5 : cy ∈ lw_rest) : GoodIn lw_rest (cy :: lw_rest) := by
  intro w hw
  have h : w ∈ lw_rest := by
    rcases List.mem_cons.mp hw with rfl | h
    · exact h5
    · exact h
  exact ⟨h, lw_good w h⟩
theorem rt_gS {own : String} {index : Nat} {y : MethodName} {cy : Cond} (h1 : Cond.methodLink own index y ∈ lw_rest) (h2 : Cond.static y ∈ lw_rest) (h4 : Cond.initialized y.cls ∈ lw_rest) (h5 : cy ∈ lw_rest) : GoodIn lw_rest (va_wsS own index y (cy :: lw_rest)) := by
  intro w hw
  have h : w ∈ lw_rest := by
    unfold va_wsS at hw
    simp only [List.cons_append, List.nil_append, List.mem_cons] at hw
    rcases hw with rfl | rfl | rfl | rfl | h
    · exact h1
    · exact h2
    · exact h4
    · exact h5
    · exact h
  exact ⟨h, lw_good w h⟩
theorem rt_fm {α : Type} {ws wc : List α} {is : List Nat} (h : is.map (fun i => ws[i]?) = wc.map some) : is.filterMap (fun i => ws[i]?) = wc := by
  have := congrArg (List.filterMap id) h
  simpa [List.filterMap_map] using this
section RtRows
variable {p : Program} {l : Launch} {e : Env} {R : Room} {s : State} {m : MethodId} {args : Array Value} {below : List Frame} {meth : Method} {c : Code} {H : Heap} {locs : List Loc} {cells slots : Nat} {Q : State → Prop}
variable {dC : Nat → ClassId} {dI : Nat → Nat → Nat} {A A0 : Nat → Prop} {cc : ByteArray} {pc : Nat} {ls : Array Slot} {rest st : List Value} {H0 : Heap}
/-- a contract's start -/
theorem rt_met {y : MethodName} {maxL : Nat} {ret : Option FieldType} {rm : Room} {av : List Value} {tys : List (ClassId × FieldType)} {ws : va_W} {sz : Nat} {Qc : (Nat → Prop) → Array Value → State → Outcome → State → Prop} {mc ms : Nat} (hy : plainName y.cls = true) (hlen : (lg_sl av).length ≤ maxL)
    (body : ∀ (p : Program) (e : Env) (s : State) (m : MethodId) (below : List Frame) (meth : Method) (c : Code) (A : Nat → Prop) (ls : Array Slot), p.tables.exec = Jvm.exec → c.code = cc → meth.sig.returnType = ret → c.maxLocals = maxL → s.vm.findClass y.cls = some m.cls → (∀ w ∈ lw_rest, w.before av.toArray s = true) → meth.locks = false → meth.name = y.name → va_P (dC, dI) classes ws s.heap → va_K (dC, dI) classes tys s → va_D A ws → rt_N s → (∀ q, s.heap.size ≤ q → A q) → va_S A s.heap s.heap [] → lv_has ls maxL (lv_args 0 av) → W p l e rm s m av.toArray below meth c s.heap [] 0 0 (MQ below (Qc A) av.toArray s mc ms A) (F0 m 0 ls [])) :
    Met l y (.code y cc maxL ret :: lw_rest) rm (va_Pc av (rt_B dC dI tys ws sz)) (Qc (va_A ws sz)) mc ms (va_A ws sz) := by
  refine Met.ofW (cc := cc) (maxL := maxL) (ret := ret) hy rfl ?_
  intro p e s m args below meth c s₁ B hml hv
  obtain ⟨rfl, hsz, hP, hK, hD0, hN⟩ := hv
  subst hsz
  rw [lg_entry_eq]
  exact body p e s m below meth c _ _ B.exec B.bytes B.returns hml (findClass_of_methodNamed B.named) (fun w h => atoms_spec (ws := .code y cc maxL ret :: lw_rest) B.pre w (List.mem_cons_of_mem _ h)) B.notSynchronized (name_of_methodNamed B.named B.method).1 hP hK hD0.self hN (fun q h => Or.inr h) va_S.rf (lv_entry av hlen)
end RtRows
/-- a contract that answers an int, a long, nothing -/
abbrev rt_Ci (l : Launch) (y : MethodName) (cc : ByteArray) (maxL : Nat) (ret : Option FieldType) (rm : Room) (dC : Nat → ClassId) (dI : Nat → Nat → Nat) (tys : List (ClassId × FieldType)) (ws : va_W) (sz : Nat) (av : List Value) {S : Type} (post : Int32 → S → Prop) (ty1 : S → List (ClassId × FieldType)) (w1 : S → va_W) (mc ms : Nat) : Prop :=
  Met l y (.code y cc maxL ret :: lw_rest) rm (va_Pc av (rt_B dC dI tys ws sz)) (va_Qi post (fun u => rt_E dC dI (ty1 u) (va_A ws sz) (w1 u)) (va_A ws sz)) mc ms (va_A ws sz)
abbrev rt_Cl (l : Launch) (y : MethodName) (cc : ByteArray) (maxL : Nat) (ret : Option FieldType) (rm : Room) (dC : Nat → ClassId) (dI : Nat → Nat → Nat) (tys : List (ClassId × FieldType)) (ws : va_W) (sz : Nat) (av : List Value) {S : Type} (post : Int64 → S → Prop) (ty1 : S → List (ClassId × FieldType)) (w1 : S → va_W) (mc ms : Nat) : Prop :=
  Met l y (.code y cc maxL ret :: lw_rest) rm (va_Pc av (rt_B dC dI tys ws sz)) (va_Ql post (fun u => rt_E dC dI (ty1 u) (va_A ws sz) (w1 u)) (va_A ws sz)) mc ms (va_A ws sz)
abbrev rt_Cv (l : Launch) (y : MethodName) (cc : ByteArray) (maxL : Nat) (ret : Option FieldType) (rm : Room) (dC : Nat → ClassId) (dI : Nat → Nat → Nat) (tys : List (ClassId × FieldType)) (ws : va_W) (sz : Nat) (av : List Value) {S : Type} (post : S → Prop) (ty1 : S → List (ClassId × FieldType)) (w1 : S → va_W) (mc ms : Nat) : Prop :=
  Met l y (.code y cc maxL ret :: lw_rest) rm (va_Pc av (rt_B dC dI tys ws sz)) (va_Qv post (fun u => rt_E dC dI (ty1 u) (va_A ws sz) (w1 u)) (va_A ws sz)) mc ms (va_A ws sz)
section RtRows
variable {p : Program} {l : Launch} {e : Env} {R : Room} {s : State} {m : MethodId} {args : Array Value} {below : List Frame} {meth : Method} {c : Code} {H : Heap} {locs : List Loc} {cells slots : Nat} {Q : State → Prop}
variable {dC : Nat → ClassId} {dI : Nat → Nat → Nat} {A A0 : Nat → Prop} {cc : ByteArray} {pc : Nat} {ls : Array Slot} {rest st : List Value} {H0 : Heap}
theorem rt_meti {y : MethodName} {maxL : Nat} {ret : Option FieldType} {rm : Room} {av : List Value} {tys : List (ClassId × FieldType)} {ws : va_W} {sz : Nat} {S : Type} {post : Int32 → S → Prop} {ty1 : S → List (ClassId × FieldType)} {w1 : S → va_W} {mc ms : Nat} (hy : plainName y.cls = true) (hlen : (lg_sl av).length ≤ maxL)
    (body : ∀ (p : Program) (e : Env) (s : State) (m : MethodId) (below : List Frame) (meth : Method) (c : Code) (A : Nat → Prop) (ls : Array Slot), p.tables.exec = Jvm.exec → c.code = cc → meth.sig.returnType = ret → c.maxLocals = maxL → s.vm.findClass y.cls = some m.cls → (∀ w ∈ lw_rest, w.before av.toArray s = true) → meth.locks = false → meth.name = y.name → va_P (dC, dI) classes ws s.heap → va_K (dC, dI) classes tys s → va_D A ws → rt_N s → (∀ q, s.heap.size ≤ q → A q) → va_S A s.heap s.heap [] → lv_has ls maxL (lv_args 0 av) → W p l e rm s m av.toArray below meth c s.heap [] 0 0 (MQ below (va_Qi post (fun u => rt_E dC dI (ty1 u) A (w1 u)) A) av.toArray s mc ms A) (F0 m 0 ls [])) :
    rt_Ci l y cc maxL ret rm dC dI tys ws sz av post ty1 w1 mc ms := rt_met (Qc := fun A => va_Qi post (fun u => rt_E dC dI (ty1 u) A (w1 u)) A) hy hlen body
theorem rt_metl {y : MethodName} {maxL : Nat} {ret : Option FieldType} {rm : Room} {av : List Value} {tys : List (ClassId × FieldType)} {ws : va_W} {sz : Nat} {S : Type} {post : Int64 → S → Prop} {ty1 : S → List (ClassId × FieldType)} {w1 : S → va_W} {mc ms : Nat} (hy : plainName y.cls = true) (hlen : (lg_sl av).length ≤ maxL)
    (body : ∀ (p : Program) (e : Env) (s : State) (m : MethodId) (below : List Frame) (meth : Method) (c : Code) (A : Nat → Prop) (ls : Array Slot), p.tables.exec = Jvm.exec → c.code = cc → meth.sig.returnType = ret → c.maxLocals = maxL → s.vm.findClass y.cls = some m.cls → (∀ w ∈ lw_rest, w.before av.toArray s = true) → meth.locks = false → meth.name = y.name → va_P (dC, dI) classes ws s.heap → va_K (dC, dI) classes tys s → va_D A ws → rt_N s → (∀ q, s.heap.size ≤ q → A q) → va_S A s.heap s.heap [] → lv_has ls maxL (lv_args 0 av) → W p l e rm s m av.toArray below meth c s.heap [] 0 0 (MQ below (va_Ql post (fun u => rt_E dC dI (ty1 u) A (w1 u)) A) av.toArray s mc ms A) (F0 m 0 ls [])) :
    rt_Cl l y cc maxL ret rm dC dI tys ws sz av post ty1 w1 mc ms := rt_met (Qc := fun A => va_Ql post (fun u => rt_E dC dI (ty1 u) A (w1 u)) A) hy hlen body
theorem rt_metv {y : MethodName} {maxL : Nat} {ret : Option FieldType} {rm : Room} {av : List Value} {tys : List (ClassId × FieldType)} {ws : va_W} {sz : Nat} {S : Type} {post : S → Prop} {ty1 : S → List (ClassId × FieldType)} {w1 : S → va_W} {mc ms : Nat} (hy : plainName y.cls = true) (hlen : (lg_sl av).length ≤ maxL)
    (body : ∀ (p : Program) (e : Env) (s : State) (m : MethodId) (below : List Frame) (meth : Method) (c : Code) (A : Nat → Prop) (ls : Array Slot), p.tables.exec = Jvm.exec → c.code = cc → meth.sig.returnType = ret → c.maxLocals = maxL → s.vm.findClass y.cls = some m.cls → (∀ w ∈ lw_rest, w.before av.toArray s = true) → meth.locks = false → meth.name = y.name → va_P (dC, dI) classes ws s.heap → va_K (dC, dI) classes tys s → va_D A ws → rt_N s → (∀ q, s.heap.size ≤ q → A q) → va_S A s.heap s.heap [] → lv_has ls maxL (lv_args 0 av) → W p l e rm s m av.toArray below meth c s.heap [] 0 0 (MQ below (va_Qv post (fun u => rt_E dC dI (ty1 u) A (w1 u)) A) av.toArray s mc ms A) (F0 m 0 ls [])) :
    rt_Cv l y cc maxL ret rm dC dI tys ws sz av post ty1 w1 mc ms := rt_met (Qc := fun A => va_Qv post (fun u => rt_E dC dI (ty1 u) A (w1 u)) A) hy hlen body
/-- a contract's end -/
theorem rt_iret {S : Type} {post : Int32 → S → Prop} {w1 : S → va_W} {ty1 : S → List (ClassId × FieldType)} {v : Int32} (hx : p.tables.exec = Jvm.exec) (hb : c.code = cc) (hr : meth.sig.returnType = some .int) (hlocks : meth.locks = false) (u : S) (hw : post v u) (hP : va_P (dC, dI) classes (w1 u) H) (hK : va_K (dC, dI) classes (ty1 u) s) (hD : va_D A (w1 u)) (hS : va_S A s.heap H locs) (hdg : decode cc pc = .ok (.ireturn, 1)) :
    W p l e R s m args below meth c H locs cells slots (MQ below (va_Qi post (fun u => rt_E dC dI (ty1 u) A (w1 u)) A) args s cells slots A) (F0 m pc ls [.int v]) :=
  W.iret hx hb hr (fun t ht hW => ⟨⟨v, u, rfl, hw, by rw [ht]; exact hP, va_K.moved hW.alike hK, hD⟩, hS.F ht⟩) hS.2.2 hdg hlocks
theorem rt_zret {S : Type} {post : Int32 → S → Prop} {w1 : S → va_W} {ty1 : S → List (ClassId × FieldType)} {v : Int32} (hx : p.tables.exec = Jvm.exec) (hb : c.code = cc) (hr : meth.sig.returnType = some .boolean) (hlocks : meth.locks = false) (hn : narrow .boolean (.int v) = .int v) (u : S) (hw : post v u) (hP : va_P (dC, dI) classes (w1 u) H) (hK : va_K (dC, dI) classes (ty1 u) s) (hD : va_D A (w1 u)) (hS : va_S A s.heap H locs) (hdg : decode cc pc = .ok (.ireturn, 1)) :
    W p l e R s m args below meth c H locs cells slots (MQ below (va_Qi post (fun u => rt_E dC dI (ty1 u) A (w1 u)) A) args s cells slots A) (F0 m pc ls [.int v]) :=
  W.zret hx hb hr hn (fun t ht hW => ⟨⟨v, u, rfl, hw, by rw [ht]; exact hP, va_K.moved hW.alike hK, hD⟩, hS.F ht⟩) hS.2.2 hdg hlocks
theorem rt_lret {S : Type} {post : Int64 → S → Prop} {w1 : S → va_W} {ty1 : S → List (ClassId × FieldType)} {v : Int64} (hx : p.tables.exec = Jvm.exec) (hb : c.code = cc) (hr : meth.sig.returnType = some .long) (hlocks : meth.locks = false) (u : S) (hw : post v u) (hP : va_P (dC, dI) classes (w1 u) H) (hK : va_K (dC, dI) classes (ty1 u) s) (hD : va_D A (w1 u)) (hS : va_S A s.heap H locs) (hdg : decode cc pc = .ok (.lreturn, 1)) :
    W p l e R s m args below meth c H locs cells slots (MQ below (va_Ql post (fun u => rt_E dC dI (ty1 u) A (w1 u)) A) args s cells slots A) (F0 m pc ls [.long v]) :=
  W.lret hx hb hr (fun t ht hW => ⟨⟨v, u, rfl, hw, by rw [ht]; exact hP, va_K.moved hW.alike hK, hD⟩, hS.F ht⟩) hS.2.2 hdg hlocks
theorem rt_vret {S : Type} {post : S → Prop} {w1 : S → va_W} {ty1 : S → List (ClassId × FieldType)} (hx : p.tables.exec = Jvm.exec) (hb : c.code = cc) (hr : meth.sig.returnType = none) (hlocks : meth.locks = false) (u : S) (hw : post u) (hP : va_P (dC, dI) classes (w1 u) H) (hK : va_K (dC, dI) classes (ty1 u) s) (hD : va_D A (w1 u)) (hS : va_S A s.heap H locs) (hdg : decode cc pc = .ok (.return_, 1)) :
    W p l e R s m args below meth c H locs cells slots (MQ below (va_Qv post (fun u => rt_E dC dI (ty1 u) A (w1 u)) A) args s cells slots A) (F0 m pc ls []) :=
  W.vret hx hb hr (fun t ht hW => ⟨⟨u, rfl, hw, by rw [ht]; exact hP, va_K.moved hW.alike hK, hD⟩, hS.F ht⟩) hS.2.2 hdg hlocks
/-- a call of a method on an object, by its contract: the cells wc at the places isC go in, the cells wr at isR stay, w1 comes back -/
theorem rt_runV {own C : String} {T : u_T} {N ci b n nL mc ms maxL index : Nat} {y : MethodName} {bytes : ByteArray} {ret : Option FieldType} {rm : Room} {fs As : List Value} {tys tysc : List (ClassId × FieldType)} {ws wc : va_W} {Qc : Array Value → State → Outcome → State → Prop} {free : Addr → Prop}
    (S : CallFix p m c cc nL s args lw_rest own) (hM : Met l y (.code y bytes maxL ret :: lw_rest) rm (va_Pc (.ref b :: As) (rt_B dC dI tysc wc H.size)) Qc mc ms free) (hG : GoodIn lw_rest (wsV own index C y (.code y bytes maxL ret :: lw_rest))) (hd : y.cls = C ∧ y.cls ≠ "java/lang/invoke/MethodHandle" ∧ y.cls ≠ "java/lang/invoke/VarHandle" ∧ (parseMethodDescriptor y.desc).map (fun d => d.parameters.length) = some n) (hR : rm.frames + 1 ≤ R.frames ∧ 8 + (maxL + 11) + rm.locals ≤ R.locals ∧ rm.cells = mc ∧ rm.slots = ms)
    (hP : va_P (dC, dI) classes ws H) (hK : va_K (dC, dI) classes tys s) (hD : va_D A0 ws) (hN : rt_N s) (isC isT : List Nat) (hnd : va_nd isC = true) (hC : isC.map (fun i => ws[i]?) = wc.map some) (hT : isT.filterMap (fun i => tys[i]?) = tysc) (hc : classes[ci]? = some (C, T, N)) (he : wc[0]? = some (b, .inr (ci, fs))) (hn : As.length = n) (hsize : ls.size = nL) (hstack : st = As.reverse ++ .ref b :: rest) (hW : (rest.map fun v => v.category).sum ≤ 8) (hdg : decode cc pc = .ok (.invokevirtual index, 3)) (hf : cells + mc ≤ R.cells ∧ slots + ms ≤ R.slots) :
    va_Run p l e R s m args below meth c H locs cells slots mc ms (F0 m pc ls st) rest (Qc (Value.ref b :: As).toArray) free :=
  va_runV S hM (cwV n S.2.2.2.2 hG rfl hR.2.2.1 hR.2.2.2 hd ⟨hR.1, hR.2.1⟩) (rt_preV (hP.sub isC (rt_fm hC)) (hK.sub isT hT) (hD.sub isC hnd hC) hN hc he) rfl hn hsize hstack (lv_room hW) hdg hf
theorem rt_gi {S : Type} {post : Int32 → S → Prop} {ty1 : S → List (ClassId × FieldType)} {w1 : S → va_W} {ws wc wr : va_W} {mc ms : Nat} {a : Array Value}
    (hr : va_Run p l e R s m args below meth c H locs cells slots mc ms (F0 m pc ls st) rest (va_Qi post (fun u => rt_E dC dI (ty1 u) (va_A wc H.size) (w1 u)) (va_A wc H.size) a) (va_A wc H.size)) (hP : va_P (dC, dI) classes ws H) (hD : va_D A0 ws) (hS : va_S A0 H0 H locs) (hA : ∀ q, H0.size ≤ q → A0 q) (isC isR : List Nat) (hC : isC.map (fun i => ws[i]?) = wc.map some) (hR : isR.map (fun i => ws[i]?) = wr.map some) (hn : va_nd isR = true) (hdis : ∀ i ∈ isR, i ∉ isC)
    (kk : ∀ (r : Int32) (u : S) (H1 : Heap) (locs1 : List Loc), post r u → va_P (dC, dI) classes (wr ++ w1 u) H1 → va_D A0 (wr ++ w1 u) → va_S A0 H0 H1 locs1 → va_K (dC, dI) classes (ty1 u) s → W p l e R s m args below meth c H1 locs1 (cells + mc) (slots + ms) Q (F0 m (pc + 3) ls (.int r :: rest))) : W p l e R s m args below meth c H locs cells slots Q (F0 m pc ls st) := by
  have hFc := va_free (wc := wc) hD hS hA isC hC
  refine va_calli hr hS (fun q _ h => hFc q h) hFc (fun r u t H1 locs1 ht hvm hw hB hz1 hk1 hS1 => ?_)
  obtain ⟨hP1, hK1, hD1⟩ := hB
  rw [ht] at hP1
  obtain ⟨hP2, hD2⟩ := va_join hP hD isC isR hC hR hn hdis hk1 hFc hP1 hD1
  exact kk r u H1 locs1 hw hP2 hD2 hS1 (va_K.moved hvm.symm hK1)
theorem rt_gl {S : Type} {post : Int64 → S → Prop} {ty1 : S → List (ClassId × FieldType)} {w1 : S → va_W} {ws wc wr : va_W} {mc ms : Nat} {a : Array Value}
    (hr : va_Run p l e R s m args below meth c H locs cells slots mc ms (F0 m pc ls st) rest (va_Ql post (fun u => rt_E dC dI (ty1 u) (va_A wc H.size) (w1 u)) (va_A wc H.size) a) (va_A wc H.size)) (hP : va_P (dC, dI) classes ws H) (hD : va_D A0 ws) (hS : va_S A0 H0 H locs) (hA : ∀ q, H0.size ≤ q → A0 q) (isC isR : List Nat) (hC : isC.map (fun i => ws[i]?) = wc.map some) (hR : isR.map (fun i => ws[i]?) = wr.map some) (hn : va_nd isR = true) (hdis : ∀ i ∈ isR, i ∉ isC)
    (kk : ∀ (r : Int64) (u : S) (H1 : Heap) (locs1 : List Loc), post r u → va_P (dC, dI) classes (wr ++ w1 u) H1 → va_D A0 (wr ++ w1 u) → va_S A0 H0 H1 locs1 → va_K (dC, dI) classes (ty1 u) s → W p l e R s m args below meth c H1 locs1 (cells + mc) (slots + ms) Q (F0 m (pc + 3) ls (.long r :: rest))) : W p l e R s m args below meth c H locs cells slots Q (F0 m pc ls st) := by
  have hFc := va_free (wc := wc) hD hS hA isC hC
  refine va_calll hr hS (fun q _ h => hFc q h) hFc (fun r u t H1 locs1 ht hvm hw hB hz1 hk1 hS1 => ?_)
  obtain ⟨hP1, hK1, hD1⟩ := hB
  rw [ht] at hP1
  obtain ⟨hP2, hD2⟩ := va_join hP hD isC isR hC hR hn hdis hk1 hFc hP1 hD1
  exact kk r u H1 locs1 hw hP2 hD2 hS1 (va_K.moved hvm.symm hK1)
theorem rt_gv {S : Type} {post : S → Prop} {ty1 : S → List (ClassId × FieldType)} {w1 : S → va_W} {ws wc wr : va_W} {mc ms : Nat} {a : Array Value}
    (hr : va_Run p l e R s m args below meth c H locs cells slots mc ms (F0 m pc ls st) rest (va_Qv post (fun u => rt_E dC dI (ty1 u) (va_A wc H.size) (w1 u)) (va_A wc H.size) a) (va_A wc H.size)) (hP : va_P (dC, dI) classes ws H) (hD : va_D A0 ws) (hS : va_S A0 H0 H locs) (hA : ∀ q, H0.size ≤ q → A0 q) (isC isR : List Nat) (hC : isC.map (fun i => ws[i]?) = wc.map some) (hR : isR.map (fun i => ws[i]?) = wr.map some) (hn : va_nd isR = true) (hdis : ∀ i ∈ isR, i ∉ isC)
    (kk : ∀ (u : S) (H1 : Heap) (locs1 : List Loc), post u → va_P (dC, dI) classes (wr ++ w1 u) H1 → va_D A0 (wr ++ w1 u) → va_S A0 H0 H1 locs1 → va_K (dC, dI) classes (ty1 u) s → W p l e R s m args below meth c H1 locs1 (cells + mc) (slots + ms) Q (F0 m (pc + 3) ls rest)) : W p l e R s m args below meth c H locs cells slots Q (F0 m pc ls st) := by
  have hFc := va_free (wc := wc) hD hS hA isC hC
  refine va_callv hr hS (fun q _ h => hFc q h) hFc (fun u t H1 locs1 ht hvm hw hB hz1 hk1 hS1 => ?_)
  obtain ⟨hP1, hK1, hD1⟩ := hB
  rw [ht] at hP1
  obtain ⟨hP2, hD2⟩ := va_join hP hD isC isR hC hR hn hdis hk1 hFc hP1 hD1
  exact kk u H1 locs1 hw hP2 hD2 hS1 (va_K.moved hvm.symm hK1)
/-- a loop: at its head, with a measure that falls -/
theorem rt_loop {σ : Type} (μ : σ → Nat) (I : σ → Heap → List Loc → Array Slot → Prop)
    (step : ∀ (a : σ) (H : Heap) (locs : List Loc) (ls : Array Slot), I a H locs ls → (∀ (a' : σ) (H' : Heap) (locs' : List Loc) (ls' : Array Slot), μ a' < μ a → I a' H' locs' ls' → W p l e R s m args below meth c H' locs' cells slots Q (F0 m pc ls' [])) → W p l e R s m args below meth c H locs cells slots Q (F0 m pc ls [])) :
    ∀ (a : σ) (H : Heap) (locs : List Loc) (ls : Array Slot), I a H locs ls → W p l e R s m args below meth c H locs cells slots Q (F0 m pc ls []) := by
  have key : ∀ (n : Nat) (a : σ) (H : Heap) (locs : List Loc) (ls : Array Slot), μ a < n → I a H locs ls → W p l e R s m args below meth c H locs cells slots Q (F0 m pc ls []) := by
    intro n
    induction n with
    | zero => intro a H locs ls h; exact absurd h (Nat.not_lt_zero _)
    | succ n ih =>
      intro a H locs ls h hI
      exact step a H locs ls hI (fun a' H' locs' ls' h' hI' => ih a' H' locs' ls' (by omega) hI')
  intro a H locs ls hI
  exact key (μ a + 1) a H locs ls (Nat.lt_succ_self _) hI
end RtRows
end
section
theorem d_Tm_init_0 : decode b_Tm_init 0 = .ok (.aload_n 0, 1) := by decide +kernel
theorem d_Tm_init_1 : decode b_Tm_init 1 = .ok (.invokespecial 3, 3) := by decide +kernel
theorem d_Tm_init_4 : decode b_Tm_init 4 = .ok (.return_, 1) := by decide +kernel
theorem d_Rw_init_0 : decode b_Rw_init 0 = .ok (.aload_n 0, 1) := by decide +kernel
theorem d_Rw_init_1 : decode b_Rw_init 1 = .ok (.invokespecial 3, 3) := by decide +kernel
theorem d_Rw_init_4 : decode b_Rw_init 4 = .ok (.aload_n 0, 1) := by decide +kernel
theorem d_Rw_init_5 : decode b_Rw_init 5 = .ok (.bipush 32, 2) := by decide +kernel
theorem d_Rw_init_7 : decode b_Rw_init 7 = .ok (.newarray .int, 2) := by decide +kernel
theorem d_Rw_init_9 : decode b_Rw_init 9 = .ok (.putfield 9, 3) := by decide +kernel
theorem d_Rw_init_12 : decode b_Rw_init 12 = .ok (.aload_n 0, 1) := by decide +kernel
theorem d_Rw_init_13 : decode b_Rw_init 13 = .ok (.bipush 32, 2) := by decide +kernel
theorem d_Rw_init_15 : decode b_Rw_init 15 = .ok (.newarray .int, 2) := by decide +kernel
theorem d_Rw_init_17 : decode b_Rw_init 17 = .ok (.putfield 15, 3) := by decide +kernel
theorem d_Rw_init_20 : decode b_Rw_init 20 = .ok (.return_, 1) := by decide +kernel
theorem d_Tm_reset_0 : decode b_Tm_reset 0 = .ok (.aload_n 0, 1) := by decide +kernel
theorem d_Tm_reset_1 : decode b_Tm_reset 1 = .ok (.iconst 0, 1) := by decide +kernel
theorem d_Tm_reset_2 : decode b_Tm_reset 2 = .ok (.putfield 9, 3) := by decide +kernel
theorem d_Tm_reset_5 : decode b_Tm_reset 5 = .ok (.aload_n 0, 1) := by decide +kernel
theorem d_Tm_reset_6 : decode b_Tm_reset 6 = .ok (.iconst 0, 1) := by decide +kernel
theorem d_Tm_reset_7 : decode b_Tm_reset 7 = .ok (.putfield 15, 3) := by decide +kernel
theorem d_Tm_reset_10 : decode b_Tm_reset 10 = .ok (.aload_n 0, 1) := by decide +kernel
theorem d_Tm_reset_11 : decode b_Tm_reset 11 = .ok (.iconst 0, 1) := by decide +kernel
theorem d_Tm_reset_12 : decode b_Tm_reset 12 = .ok (.putfield 18, 3) := by decide +kernel
theorem d_Tm_reset_15 : decode b_Tm_reset 15 = .ok (.aload_n 0, 1) := by decide +kernel
theorem d_Tm_reset_16 : decode b_Tm_reset 16 = .ok (.iconst 0, 1) := by decide +kernel
theorem d_Tm_reset_17 : decode b_Tm_reset 17 = .ok (.putfield 22, 3) := by decide +kernel
theorem d_Tm_reset_20 : decode b_Tm_reset 20 = .ok (.return_, 1) := by decide +kernel
theorem d_Rw_add_0 : decode b_Rw_add 0 = .ok (.iload_n 1, 1) := by decide +kernel
theorem d_Rw_add_1 : decode b_Rw_add 1 = .ok (.ifCond .lt 34, 3) := by decide +kernel
theorem d_Rw_add_4 : decode b_Rw_add 4 = .ok (.aload_n 0, 1) := by decide +kernel
theorem d_Rw_add_5 : decode b_Rw_add 5 = .ok (.getfield 18, 3) := by decide +kernel
theorem d_Rw_add_8 : decode b_Rw_add 8 = .ok (.bipush 32, 2) := by decide +kernel
theorem d_Rw_add_10 : decode b_Rw_add 10 = .ok (.if_icmp .eq 25, 3) := by decide +kernel
theorem d_Rw_add_13 : decode b_Rw_add 13 = .ok (.aload_n 0, 1) := by decide +kernel
theorem d_Rw_add_14 : decode b_Rw_add 14 = .ok (.getfield 18, 3) := by decide +kernel
theorem d_Rw_add_17 : decode b_Rw_add 17 = .ok (.ifCond .le 20, 3) := by decide +kernel
theorem d_Rw_add_20 : decode b_Rw_add 20 = .ok (.iload_n 1, 1) := by decide +kernel
theorem d_Rw_add_21 : decode b_Rw_add 21 = .ok (.aload_n 0, 1) := by decide +kernel
theorem d_Rw_add_22 : decode b_Rw_add 22 = .ok (.getfield 9, 3) := by decide +kernel
theorem d_Rw_add_25 : decode b_Rw_add 25 = .ok (.aload_n 0, 1) := by decide +kernel
theorem d_Rw_add_26 : decode b_Rw_add 26 = .ok (.getfield 18, 3) := by decide +kernel
theorem d_Rw_add_29 : decode b_Rw_add 29 = .ok (.iconst 1, 1) := by decide +kernel
theorem d_Rw_add_30 : decode b_Rw_add 30 = .ok (.isub, 1) := by decide +kernel
theorem d_Rw_add_31 : decode b_Rw_add 31 = .ok (.iaload, 1) := by decide +kernel
theorem d_Rw_add_32 : decode b_Rw_add 32 = .ok (.if_icmp .gt 5, 3) := by decide +kernel
theorem d_Rw_add_35 : decode b_Rw_add 35 = .ok (.iconst 0, 1) := by decide +kernel
theorem d_Rw_add_36 : decode b_Rw_add 36 = .ok (.ireturn, 1) := by decide +kernel
theorem d_Rw_add_37 : decode b_Rw_add 37 = .ok (.aload_n 0, 1) := by decide +kernel
theorem d_Rw_add_38 : decode b_Rw_add 38 = .ok (.getfield 9, 3) := by decide +kernel
theorem d_Rw_add_41 : decode b_Rw_add 41 = .ok (.aload_n 0, 1) := by decide +kernel
theorem d_Rw_add_42 : decode b_Rw_add 42 = .ok (.getfield 18, 3) := by decide +kernel
theorem d_Rw_add_45 : decode b_Rw_add 45 = .ok (.iload_n 1, 1) := by decide +kernel
theorem d_Rw_add_46 : decode b_Rw_add 46 = .ok (.iastore, 1) := by decide +kernel
theorem d_Rw_add_47 : decode b_Rw_add 47 = .ok (.aload_n 0, 1) := by decide +kernel
theorem d_Rw_add_48 : decode b_Rw_add 48 = .ok (.getfield 15, 3) := by decide +kernel
theorem d_Rw_add_51 : decode b_Rw_add 51 = .ok (.aload_n 0, 1) := by decide +kernel
theorem d_Rw_add_52 : decode b_Rw_add 52 = .ok (.getfield 18, 3) := by decide +kernel
theorem d_Rw_add_55 : decode b_Rw_add 55 = .ok (.iload_n 2, 1) := by decide +kernel
theorem d_Rw_add_56 : decode b_Rw_add 56 = .ok (.iastore, 1) := by decide +kernel
theorem d_Rw_add_57 : decode b_Rw_add 57 = .ok (.aload_n 0, 1) := by decide +kernel
theorem d_Rw_add_58 : decode b_Rw_add 58 = .ok (.dup, 1) := by decide +kernel
theorem d_Rw_add_59 : decode b_Rw_add 59 = .ok (.getfield 18, 3) := by decide +kernel
theorem d_Rw_add_62 : decode b_Rw_add 62 = .ok (.iconst 1, 1) := by decide +kernel
theorem d_Rw_add_63 : decode b_Rw_add 63 = .ok (.iadd, 1) := by decide +kernel
theorem d_Rw_add_64 : decode b_Rw_add 64 = .ok (.putfield 18, 3) := by decide +kernel
theorem d_Rw_add_67 : decode b_Rw_add 67 = .ok (.iconst 1, 1) := by decide +kernel
theorem d_Rw_add_68 : decode b_Rw_add 68 = .ok (.ireturn, 1) := by decide +kernel
theorem d_Tm_until_0 : decode b_Tm_until 0 = .ok (.aload_n 0, 1) := by decide +kernel
theorem d_Tm_until_1 : decode b_Tm_until 1 = .ok (.getfield 22, 3) := by decide +kernel
theorem d_Tm_until_4 : decode b_Tm_until 4 = .ok (.ifCond .eq 7, 3) := by decide +kernel
theorem d_Tm_until_7 : decode b_Tm_until 7 = .ok (.lconst 0, 1) := by decide +kernel
theorem d_Tm_until_8 : decode b_Tm_until 8 = .ok (.goto 20, 3) := by decide +kernel
theorem d_Tm_until_11 : decode b_Tm_until 11 = .ok (.aload_n 0, 1) := by decide +kernel
theorem d_Tm_until_12 : decode b_Tm_until 12 = .ok (.getfield 18, 3) := by decide +kernel
theorem d_Tm_until_15 : decode b_Tm_until 15 = .ok (.ifCond .eq 10, 3) := by decide +kernel
theorem d_Tm_until_18 : decode b_Tm_until 18 = .ok (.aload_n 0, 1) := by decide +kernel
theorem d_Tm_until_19 : decode b_Tm_until 19 = .ok (.invokevirtual 29, 3) := by decide +kernel
theorem d_Tm_until_22 : decode b_Tm_until 22 = .ok (.goto 6, 3) := by decide +kernel
theorem d_Tm_until_25 : decode b_Tm_until 25 = .ok (.ldc2_w 33, 3) := by decide +kernel
theorem d_Tm_until_28 : decode b_Tm_until 28 = .ok (.lreturn, 1) := by decide +kernel
theorem d_Tm_way_0 : decode b_Tm_way 0 = .ok (.aload_n 0, 1) := by decide +kernel
theorem d_Tm_way_1 : decode b_Tm_way 1 = .ok (.getfield 9, 3) := by decide +kernel
theorem d_Tm_way_4 : decode b_Tm_way 4 = .ok (.aload_n 0, 1) := by decide +kernel
theorem d_Tm_way_5 : decode b_Tm_way 5 = .ok (.getfield 15, 3) := by decide +kernel
theorem d_Tm_way_8 : decode b_Tm_way 8 = .ok (.isub, 1) := by decide +kernel
theorem d_Tm_way_9 : decode b_Tm_way 9 = .ok (.i2l, 1) := by decide +kernel
theorem d_Tm_way_10 : decode b_Tm_way 10 = .ok (.ldc2_w 25, 3) := by decide +kernel
theorem d_Tm_way_13 : decode b_Tm_way 13 = .ok (.land, 1) := by decide +kernel
theorem d_Tm_way_14 : decode b_Tm_way 14 = .ok (.lstore_n 1, 1) := by decide +kernel
theorem d_Tm_way_15 : decode b_Tm_way 15 = .ok (.lload_n 1, 1) := by decide +kernel
theorem d_Tm_way_16 : decode b_Tm_way 16 = .ok (.lconst 0, 1) := by decide +kernel
theorem d_Tm_way_17 : decode b_Tm_way 17 = .ok (.lcmp, 1) := by decide +kernel
theorem d_Tm_way_18 : decode b_Tm_way 18 = .ok (.ifCond .ne 9, 3) := by decide +kernel
theorem d_Tm_way_21 : decode b_Tm_way 21 = .ok (.ldc2_w 27, 3) := by decide +kernel
theorem d_Tm_way_24 : decode b_Tm_way 24 = .ok (.goto 4, 3) := by decide +kernel
theorem d_Tm_way_27 : decode b_Tm_way 27 = .ok (.lload_n 1, 1) := by decide +kernel
theorem d_Tm_way_28 : decode b_Tm_way 28 = .ok (.lreturn, 1) := by decide +kernel
theorem d_Rw_until_0 : decode b_Rw_until 0 = .ok (.aload_n 0, 1) := by decide +kernel
theorem d_Rw_until_1 : decode b_Rw_until 1 = .ok (.iload_n 1, 1) := by decide +kernel
theorem d_Rw_until_2 : decode b_Rw_until 2 = .ok (.invokevirtual 22, 3) := by decide +kernel
theorem d_Rw_until_5 : decode b_Rw_until 5 = .ok (.iload_n 2, 1) := by decide +kernel
theorem d_Rw_until_6 : decode b_Rw_until 6 = .ok (.iand, 1) := by decide +kernel
theorem d_Rw_until_7 : decode b_Rw_until 7 = .ok (.ifCond .eq 5, 3) := by decide +kernel
theorem d_Rw_until_10 : decode b_Rw_until 10 = .ok (.lconst 0, 1) := by decide +kernel
theorem d_Rw_until_11 : decode b_Rw_until 11 = .ok (.lreturn, 1) := by decide +kernel
theorem d_Rw_until_12 : decode b_Rw_until 12 = .ok (.iconst 0, 1) := by decide +kernel
theorem d_Rw_until_13 : decode b_Rw_until 13 = .ok (.istore_n 3, 1) := by decide +kernel
theorem d_Rw_until_14 : decode b_Rw_until 14 = .ok (.iload_n 3, 1) := by decide +kernel
theorem d_Rw_until_15 : decode b_Rw_until 15 = .ok (.aload_n 0, 1) := by decide +kernel
theorem d_Rw_until_16 : decode b_Rw_until 16 = .ok (.getfield 18, 3) := by decide +kernel
theorem d_Rw_until_19 : decode b_Rw_until 19 = .ok (.if_icmp .ge 40, 3) := by decide +kernel
theorem d_Rw_until_22 : decode b_Rw_until 22 = .ok (.aload_n 0, 1) := by decide +kernel
theorem d_Rw_until_23 : decode b_Rw_until 23 = .ok (.getfield 9, 3) := by decide +kernel
theorem d_Rw_until_26 : decode b_Rw_until 26 = .ok (.iload_n 3, 1) := by decide +kernel
theorem d_Rw_until_27 : decode b_Rw_until 27 = .ok (.iaload, 1) := by decide +kernel
theorem d_Rw_until_28 : decode b_Rw_until 28 = .ok (.iload_n 1, 1) := by decide +kernel
theorem d_Rw_until_29 : decode b_Rw_until 29 = .ok (.if_icmp .le 24, 3) := by decide +kernel
theorem d_Rw_until_32 : decode b_Rw_until 32 = .ok (.aload_n 0, 1) := by decide +kernel
theorem d_Rw_until_33 : decode b_Rw_until 33 = .ok (.getfield 15, 3) := by decide +kernel
theorem d_Rw_until_36 : decode b_Rw_until 36 = .ok (.iload_n 3, 1) := by decide +kernel
theorem d_Rw_until_37 : decode b_Rw_until 37 = .ok (.iaload, 1) := by decide +kernel
theorem d_Rw_until_38 : decode b_Rw_until 38 = .ok (.iload_n 2, 1) := by decide +kernel
theorem d_Rw_until_39 : decode b_Rw_until 39 = .ok (.iand, 1) := by decide +kernel
theorem d_Rw_until_40 : decode b_Rw_until 40 = .ok (.ifCond .eq 13, 3) := by decide +kernel
theorem d_Rw_until_43 : decode b_Rw_until 43 = .ok (.aload_n 0, 1) := by decide +kernel
theorem d_Rw_until_44 : decode b_Rw_until 44 = .ok (.getfield 9, 3) := by decide +kernel
theorem d_Rw_until_47 : decode b_Rw_until 47 = .ok (.iload_n 3, 1) := by decide +kernel
theorem d_Rw_until_48 : decode b_Rw_until 48 = .ok (.iaload, 1) := by decide +kernel
theorem d_Rw_until_49 : decode b_Rw_until 49 = .ok (.iload_n 1, 1) := by decide +kernel
theorem d_Rw_until_50 : decode b_Rw_until 50 = .ok (.isub, 1) := by decide +kernel
theorem d_Rw_until_51 : decode b_Rw_until 51 = .ok (.i2l, 1) := by decide +kernel
theorem d_Rw_until_52 : decode b_Rw_until 52 = .ok (.lreturn, 1) := by decide +kernel
theorem d_Rw_until_53 : decode b_Rw_until 53 = .ok (.iinc 3 1, 3) := by decide +kernel
theorem d_Rw_until_56 : decode b_Rw_until 56 = .ok (.goto (-42), 3) := by decide +kernel
theorem d_Rw_until_59 : decode b_Rw_until 59 = .ok (.ldc2_w 26, 3) := by decide +kernel
theorem d_Rw_until_62 : decode b_Rw_until 62 = .ok (.lreturn, 1) := by decide +kernel
theorem d_Rw_at_0 : decode b_Rw_at 0 = .ok (.iconst 0, 1) := by decide +kernel
theorem d_Rw_at_1 : decode b_Rw_at 1 = .ok (.istore_n 2, 1) := by decide +kernel
theorem d_Rw_at_2 : decode b_Rw_at 2 = .ok (.aload_n 0, 1) := by decide +kernel
theorem d_Rw_at_3 : decode b_Rw_at 3 = .ok (.getfield 18, 3) := by decide +kernel
theorem d_Rw_at_6 : decode b_Rw_at 6 = .ok (.istore_n 3, 1) := by decide +kernel
theorem d_Rw_at_7 : decode b_Rw_at 7 = .ok (.iload_n 2, 1) := by decide +kernel
theorem d_Rw_at_8 : decode b_Rw_at 8 = .ok (.iload_n 3, 1) := by decide +kernel
theorem d_Rw_at_9 : decode b_Rw_at 9 = .ok (.if_icmp .ge 35, 3) := by decide +kernel
theorem d_Rw_at_12 : decode b_Rw_at 12 = .ok (.iload_n 2, 1) := by decide +kernel
theorem d_Rw_at_13 : decode b_Rw_at 13 = .ok (.iload_n 3, 1) := by decide +kernel
theorem d_Rw_at_14 : decode b_Rw_at 14 = .ok (.iadd, 1) := by decide +kernel
theorem d_Rw_at_15 : decode b_Rw_at 15 = .ok (.iconst 2, 1) := by decide +kernel
theorem d_Rw_at_16 : decode b_Rw_at 16 = .ok (.idiv, 1) := by decide +kernel
theorem d_Rw_at_17 : decode b_Rw_at 17 = .ok (.istore 4, 2) := by decide +kernel
theorem d_Rw_at_19 : decode b_Rw_at 19 = .ok (.aload_n 0, 1) := by decide +kernel
theorem d_Rw_at_20 : decode b_Rw_at 20 = .ok (.getfield 9, 3) := by decide +kernel
theorem d_Rw_at_23 : decode b_Rw_at 23 = .ok (.iload 4, 2) := by decide +kernel
theorem d_Rw_at_25 : decode b_Rw_at 25 = .ok (.iaload, 1) := by decide +kernel
theorem d_Rw_at_26 : decode b_Rw_at 26 = .ok (.iload_n 1, 1) := by decide +kernel
theorem d_Rw_at_27 : decode b_Rw_at 27 = .ok (.if_icmp .gt 11, 3) := by decide +kernel
theorem d_Rw_at_30 : decode b_Rw_at 30 = .ok (.iload 4, 2) := by decide +kernel
theorem d_Rw_at_32 : decode b_Rw_at 32 = .ok (.iconst 1, 1) := by decide +kernel
theorem d_Rw_at_33 : decode b_Rw_at 33 = .ok (.iadd, 1) := by decide +kernel
theorem d_Rw_at_34 : decode b_Rw_at 34 = .ok (.istore_n 2, 1) := by decide +kernel
theorem d_Rw_at_35 : decode b_Rw_at 35 = .ok (.goto 6, 3) := by decide +kernel
theorem d_Rw_at_38 : decode b_Rw_at 38 = .ok (.iload 4, 2) := by decide +kernel
theorem d_Rw_at_40 : decode b_Rw_at 40 = .ok (.istore_n 3, 1) := by decide +kernel
theorem d_Rw_at_41 : decode b_Rw_at 41 = .ok (.goto (-34), 3) := by decide +kernel
theorem d_Rw_at_44 : decode b_Rw_at 44 = .ok (.iload_n 2, 1) := by decide +kernel
theorem d_Rw_at_45 : decode b_Rw_at 45 = .ok (.ifCond .ne 7, 3) := by decide +kernel
theorem d_Rw_at_48 : decode b_Rw_at 48 = .ok (.iconst 0, 1) := by decide +kernel
theorem d_Rw_at_49 : decode b_Rw_at 49 = .ok (.goto 11, 3) := by decide +kernel
theorem d_Rw_at_52 : decode b_Rw_at 52 = .ok (.aload_n 0, 1) := by decide +kernel
theorem d_Rw_at_53 : decode b_Rw_at 53 = .ok (.getfield 15, 3) := by decide +kernel
theorem d_Rw_at_56 : decode b_Rw_at 56 = .ok (.iload_n 2, 1) := by decide +kernel
theorem d_Rw_at_57 : decode b_Rw_at 57 = .ok (.iconst 1, 1) := by decide +kernel
theorem d_Rw_at_58 : decode b_Rw_at 58 = .ok (.isub, 1) := by decide +kernel
theorem d_Rw_at_59 : decode b_Rw_at 59 = .ok (.iaload, 1) := by decide +kernel
theorem d_Rw_at_60 : decode b_Rw_at 60 = .ok (.ireturn, 1) := by decide +kernel
theorem d_Mt_min_0 : decode b_Mt_min 0 = .ok (.lload_n 0, 1) := by decide +kernel
theorem d_Mt_min_1 : decode b_Mt_min 1 = .ok (.lload_n 2, 1) := by decide +kernel
theorem d_Mt_min_2 : decode b_Mt_min 2 = .ok (.lcmp, 1) := by decide +kernel
theorem d_Mt_min_3 : decode b_Mt_min 3 = .ok (.ifCond .gt 7, 3) := by decide +kernel
theorem d_Mt_min_6 : decode b_Mt_min 6 = .ok (.lload_n 0, 1) := by decide +kernel
theorem d_Mt_min_7 : decode b_Mt_min 7 = .ok (.goto 4, 3) := by decide +kernel
theorem d_Mt_min_10 : decode b_Mt_min 10 = .ok (.lload_n 2, 1) := by decide +kernel
theorem d_Mt_min_11 : decode b_Mt_min 11 = .ok (.lreturn, 1) := by decide +kernel
theorem d_Tm_leap_0 : decode b_Tm_leap 0 = .ok (.aload_n 0, 1) := by decide +kernel
theorem d_Tm_leap_1 : decode b_Tm_leap 1 = .ok (.getfield 18, 3) := by decide +kernel
theorem d_Tm_leap_4 : decode b_Tm_leap 4 = .ok (.ifCond .ne 4, 3) := by decide +kernel
theorem d_Tm_leap_7 : decode b_Tm_leap 7 = .ok (.return_, 1) := by decide +kernel
theorem d_Tm_leap_8 : decode b_Tm_leap 8 = .ok (.aload_n 0, 1) := by decide +kernel
theorem d_Tm_leap_9 : decode b_Tm_leap 9 = .ok (.invokevirtual 29, 3) := by decide +kernel
theorem d_Tm_leap_12 : decode b_Tm_leap 12 = .ok (.lstore_n 3, 1) := by decide +kernel
theorem d_Tm_leap_13 : decode b_Tm_leap 13 = .ok (.lload_n 1, 1) := by decide +kernel
theorem d_Tm_leap_14 : decode b_Tm_leap 14 = .ok (.lload_n 3, 1) := by decide +kernel
theorem d_Tm_leap_15 : decode b_Tm_leap 15 = .ok (.lcmp, 1) := by decide +kernel
theorem d_Tm_leap_16 : decode b_Tm_leap 16 = .ok (.ifCond .ge 15, 3) := by decide +kernel
theorem d_Tm_leap_19 : decode b_Tm_leap 19 = .ok (.aload_n 0, 1) := by decide +kernel
theorem d_Tm_leap_20 : decode b_Tm_leap 20 = .ok (.dup, 1) := by decide +kernel
theorem d_Tm_leap_21 : decode b_Tm_leap 21 = .ok (.getfield 15, 3) := by decide +kernel
theorem d_Tm_leap_24 : decode b_Tm_leap 24 = .ok (.lload_n 1, 1) := by decide +kernel
theorem d_Tm_leap_25 : decode b_Tm_leap 25 = .ok (.l2i, 1) := by decide +kernel
theorem d_Tm_leap_26 : decode b_Tm_leap 26 = .ok (.iadd, 1) := by decide +kernel
theorem d_Tm_leap_27 : decode b_Tm_leap 27 = .ok (.putfield 15, 3) := by decide +kernel
theorem d_Tm_leap_30 : decode b_Tm_leap 30 = .ok (.return_, 1) := by decide +kernel
theorem d_Tm_leap_31 : decode b_Tm_leap 31 = .ok (.aload_n 0, 1) := by decide +kernel
theorem d_Tm_leap_32 : decode b_Tm_leap 32 = .ok (.iconst 1, 1) := by decide +kernel
theorem d_Tm_leap_33 : decode b_Tm_leap 33 = .ok (.putfield 22, 3) := by decide +kernel
theorem d_Tm_leap_36 : decode b_Tm_leap 36 = .ok (.lload_n 1, 1) := by decide +kernel
theorem d_Tm_leap_37 : decode b_Tm_leap 37 = .ok (.lload_n 3, 1) := by decide +kernel
theorem d_Tm_leap_38 : decode b_Tm_leap 38 = .ok (.lsub, 1) := by decide +kernel
theorem d_Tm_leap_39 : decode b_Tm_leap 39 = .ok (.lstore 5, 2) := by decide +kernel
theorem d_Tm_leap_41 : decode b_Tm_leap 41 = .ok (.aload_n 0, 1) := by decide +kernel
theorem d_Tm_leap_42 : decode b_Tm_leap 42 = .ok (.aload_n 0, 1) := by decide +kernel
theorem d_Tm_leap_43 : decode b_Tm_leap 43 = .ok (.getfield 9, 3) := by decide +kernel
theorem d_Tm_leap_46 : decode b_Tm_leap 46 = .ok (.ifCond .ne 8, 3) := by decide +kernel
theorem d_Tm_leap_49 : decode b_Tm_leap 49 = .ok (.lload 5, 2) := by decide +kernel
theorem d_Tm_leap_51 : decode b_Tm_leap 51 = .ok (.goto 11, 3) := by decide +kernel
theorem d_Tm_leap_54 : decode b_Tm_leap 54 = .ok (.lload 5, 2) := by decide +kernel
theorem d_Tm_leap_56 : decode b_Tm_leap 56 = .ok (.aload_n 0, 1) := by decide +kernel
theorem d_Tm_leap_57 : decode b_Tm_leap 57 = .ok (.getfield 9, 3) := by decide +kernel
theorem d_Tm_leap_60 : decode b_Tm_leap 60 = .ok (.i2l, 1) := by decide +kernel
theorem d_Tm_leap_61 : decode b_Tm_leap 61 = .ok (.lrem, 1) := by decide +kernel
theorem d_Tm_leap_62 : decode b_Tm_leap 62 = .ok (.l2i, 1) := by decide +kernel
theorem d_Tm_leap_63 : decode b_Tm_leap 63 = .ok (.putfield 15, 3) := by decide +kernel
theorem d_Tm_leap_66 : decode b_Tm_leap 66 = .ok (.return_, 1) := by decide +kernel
end
section
theorem d_Rt_init_0 : decode b_Rt_init 0 = .ok (.aload_n 0, 1) := by decide +kernel
theorem d_Rt_init_1 : decode b_Rt_init 1 = .ok (.invokespecial 5, 3) := by decide +kernel
theorem d_Rt_init_4 : decode b_Rt_init 4 = .ok (.aload_n 0, 1) := by decide +kernel
theorem d_Rt_init_5 : decode b_Rt_init 5 = .ok (.new 11, 3) := by decide +kernel
theorem d_Rt_init_8 : decode b_Rt_init 8 = .ok (.dup, 1) := by decide +kernel
theorem d_Rt_init_9 : decode b_Rt_init 9 = .ok (.invokespecial 13, 3) := by decide +kernel
theorem d_Rt_init_12 : decode b_Rt_init 12 = .ok (.putfield 14, 3) := by decide +kernel
theorem d_Rt_init_15 : decode b_Rt_init 15 = .ok (.aload_n 0, 1) := by decide +kernel
theorem d_Rt_init_16 : decode b_Rt_init 16 = .ok (.new 18, 3) := by decide +kernel
theorem d_Rt_init_19 : decode b_Rt_init 19 = .ok (.dup, 1) := by decide +kernel
theorem d_Rt_init_20 : decode b_Rt_init 20 = .ok (.invokespecial 20, 3) := by decide +kernel
theorem d_Rt_init_23 : decode b_Rt_init 23 = .ok (.putfield 21, 3) := by decide +kernel
theorem d_Rt_init_26 : decode b_Rt_init 26 = .ok (.aload_n 0, 1) := by decide +kernel
theorem d_Rt_init_27 : decode b_Rt_init 27 = .ok (.invokevirtual 25, 3) := by decide +kernel
theorem d_Rt_init_30 : decode b_Rt_init 30 = .ok (.return_, 1) := by decide +kernel
theorem d_Rt_reset_0 : decode b_Rt_reset 0 = .ok (.aload_n 0, 1) := by decide +kernel
theorem d_Rt_reset_1 : decode b_Rt_reset 1 = .ok (.getfield 14, 3) := by decide +kernel
theorem d_Rt_reset_4 : decode b_Rt_reset 4 = .ok (.invokevirtual 28, 3) := by decide +kernel
theorem d_Rt_reset_7 : decode b_Rt_reset 7 = .ok (.aload_n 0, 1) := by decide +kernel
theorem d_Rt_reset_8 : decode b_Rt_reset 8 = .ok (.getfield 21, 3) := by decide +kernel
theorem d_Rt_reset_11 : decode b_Rt_reset 11 = .ok (.iconst 0, 1) := by decide +kernel
theorem d_Rt_reset_12 : decode b_Rt_reset 12 = .ok (.putfield 29, 3) := by decide +kernel
theorem d_Rt_reset_15 : decode b_Rt_reset 15 = .ok (.aload_n 0, 1) := by decide +kernel
theorem d_Rt_reset_16 : decode b_Rt_reset 16 = .ok (.iconst 0, 1) := by decide +kernel
theorem d_Rt_reset_17 : decode b_Rt_reset 17 = .ok (.putfield 33, 3) := by decide +kernel
theorem d_Rt_reset_20 : decode b_Rt_reset 20 = .ok (.aload_n 0, 1) := by decide +kernel
theorem d_Rt_reset_21 : decode b_Rt_reset 21 = .ok (.iconst 0, 1) := by decide +kernel
theorem d_Rt_reset_22 : decode b_Rt_reset 22 = .ok (.putfield 36, 3) := by decide +kernel
theorem d_Rt_reset_25 : decode b_Rt_reset 25 = .ok (.aload_n 0, 1) := by decide +kernel
theorem d_Rt_reset_26 : decode b_Rt_reset 26 = .ok (.iconst 1, 1) := by decide +kernel
theorem d_Rt_reset_27 : decode b_Rt_reset 27 = .ok (.putfield 39, 3) := by decide +kernel
theorem d_Rt_reset_30 : decode b_Rt_reset 30 = .ok (.aload_n 0, 1) := by decide +kernel
theorem d_Rt_reset_31 : decode b_Rt_reset 31 = .ok (.iconst 0, 1) := by decide +kernel
theorem d_Rt_reset_32 : decode b_Rt_reset 32 = .ok (.putfield 42, 3) := by decide +kernel
theorem d_Rt_reset_35 : decode b_Rt_reset 35 = .ok (.aload_n 0, 1) := by decide +kernel
theorem d_Rt_reset_36 : decode b_Rt_reset 36 = .ok (.iconst 0, 1) := by decide +kernel
theorem d_Rt_reset_37 : decode b_Rt_reset 37 = .ok (.putfield 45, 3) := by decide +kernel
theorem d_Rt_reset_40 : decode b_Rt_reset 40 = .ok (.return_, 1) := by decide +kernel
theorem d_Rt_entry_0 : decode b_Rt_entry 0 = .ok (.aload_n 0, 1) := by decide +kernel
theorem d_Rt_entry_1 : decode b_Rt_entry 1 = .ok (.getfield 21, 3) := by decide +kernel
theorem d_Rt_entry_4 : decode b_Rt_entry 4 = .ok (.iload_n 1, 1) := by decide +kernel
theorem d_Rt_entry_5 : decode b_Rt_entry 5 = .ok (.iload_n 2, 1) := by decide +kernel
theorem d_Rt_entry_6 : decode b_Rt_entry 6 = .ok (.invokevirtual 67, 3) := by decide +kernel
theorem d_Rt_entry_9 : decode b_Rt_entry 9 = .ok (.ireturn, 1) := by decide +kernel
theorem d_Rt_steps_0 : decode b_Rt_steps 0 = .ok (.iload_n 1, 1) := by decide +kernel
theorem d_Rt_steps_1 : decode b_Rt_steps 1 = .ok (.iconst 1, 1) := by decide +kernel
theorem d_Rt_steps_2 : decode b_Rt_steps 2 = .ok (.if_icmp .lt 25, 3) := by decide +kernel
theorem d_Rt_steps_5 : decode b_Rt_steps 5 = .ok (.iload_n 1, 1) := by decide +kernel
theorem d_Rt_steps_6 : decode b_Rt_steps 6 = .ok (.sipush 20000, 3) := by decide +kernel
theorem d_Rt_steps_9 : decode b_Rt_steps 9 = .ok (.if_icmp .gt 18, 3) := by decide +kernel
theorem d_Rt_steps_12 : decode b_Rt_steps 12 = .ok (.aload_n 0, 1) := by decide +kernel
theorem d_Rt_steps_13 : decode b_Rt_steps 13 = .ok (.getfield 33, 3) := by decide +kernel
theorem d_Rt_steps_16 : decode b_Rt_steps 16 = .ok (.i2l, 1) := by decide +kernel
theorem d_Rt_steps_17 : decode b_Rt_steps 17 = .ok (.iload_n 1, 1) := by decide +kernel
theorem d_Rt_steps_18 : decode b_Rt_steps 18 = .ok (.i2l, 1) := by decide +kernel
theorem d_Rt_steps_19 : decode b_Rt_steps 19 = .ok (.ladd, 1) := by decide +kernel
theorem d_Rt_steps_20 : decode b_Rt_steps 20 = .ok (.ldc2_w 73, 3) := by decide +kernel
theorem d_Rt_steps_23 : decode b_Rt_steps 23 = .ok (.lcmp, 1) := by decide +kernel
theorem d_Rt_steps_24 : decode b_Rt_steps 24 = .ok (.ifCond .le 5, 3) := by decide +kernel
theorem d_Rt_steps_27 : decode b_Rt_steps 27 = .ok (.iconst (-1), 1) := by decide +kernel
theorem d_Rt_steps_28 : decode b_Rt_steps 28 = .ok (.ireturn, 1) := by decide +kernel
theorem d_Rt_steps_29 : decode b_Rt_steps 29 = .ok (.iload_n 1, 1) := by decide +kernel
theorem d_Rt_steps_30 : decode b_Rt_steps 30 = .ok (.i2l, 1) := by decide +kernel
theorem d_Rt_steps_31 : decode b_Rt_steps 31 = .ok (.aload_n 0, 1) := by decide +kernel
theorem d_Rt_steps_32 : decode b_Rt_steps 32 = .ok (.invokevirtual 61, 3) := by decide +kernel
theorem d_Rt_steps_35 : decode b_Rt_steps 35 = .ok (.aload_n 0, 1) := by decide +kernel
theorem d_Rt_steps_36 : decode b_Rt_steps 36 = .ok (.invokevirtual 64, 3) := by decide +kernel
theorem d_Rt_steps_39 : decode b_Rt_steps 39 = .ok (.invokestatic 75, 3) := by decide +kernel
theorem d_Rt_steps_42 : decode b_Rt_steps 42 = .ok (.invokestatic 75, 3) := by decide +kernel
theorem d_Rt_steps_45 : decode b_Rt_steps 45 = .ok (.l2i, 1) := by decide +kernel
theorem d_Rt_steps_46 : decode b_Rt_steps 46 = .ok (.istore_n 2, 1) := by decide +kernel
theorem d_Rt_steps_47 : decode b_Rt_steps 47 = .ok (.aload_n 0, 1) := by decide +kernel
theorem d_Rt_steps_48 : decode b_Rt_steps 48 = .ok (.getfield 14, 3) := by decide +kernel
theorem d_Rt_steps_51 : decode b_Rt_steps 51 = .ok (.iload_n 2, 1) := by decide +kernel
theorem d_Rt_steps_52 : decode b_Rt_steps 52 = .ok (.i2l, 1) := by decide +kernel
theorem d_Rt_steps_53 : decode b_Rt_steps 53 = .ok (.invokevirtual 81, 3) := by decide +kernel
theorem d_Rt_steps_56 : decode b_Rt_steps 56 = .ok (.aload_n 0, 1) := by decide +kernel
theorem d_Rt_steps_57 : decode b_Rt_steps 57 = .ok (.dup, 1) := by decide +kernel
theorem d_Rt_steps_58 : decode b_Rt_steps 58 = .ok (.getfield 33, 3) := by decide +kernel
theorem d_Rt_steps_61 : decode b_Rt_steps 61 = .ok (.iload_n 2, 1) := by decide +kernel
theorem d_Rt_steps_62 : decode b_Rt_steps 62 = .ok (.iadd, 1) := by decide +kernel
theorem d_Rt_steps_63 : decode b_Rt_steps 63 = .ok (.putfield 33, 3) := by decide +kernel
theorem d_Rt_steps_66 : decode b_Rt_steps 66 = .ok (.iload_n 2, 1) := by decide +kernel
theorem d_Rt_steps_67 : decode b_Rt_steps 67 = .ok (.ireturn, 1) := by decide +kernel
theorem d_Rt_untilTimer_0 : decode b_Rt_untilTimer 0 = .ok (.aload_n 0, 1) := by decide +kernel
theorem d_Rt_untilTimer_1 : decode b_Rt_untilTimer 1 = .ok (.iconst 2, 1) := by decide +kernel
theorem d_Rt_untilTimer_2 : decode b_Rt_untilTimer 2 = .ok (.invokevirtual 48, 3) := by decide +kernel
theorem d_Rt_untilTimer_5 : decode b_Rt_untilTimer 5 = .ok (.ifCond .eq 13, 3) := by decide +kernel
theorem d_Rt_untilTimer_8 : decode b_Rt_untilTimer 8 = .ok (.aload_n 0, 1) := by decide +kernel
theorem d_Rt_untilTimer_9 : decode b_Rt_untilTimer 9 = .ok (.getfield 14, 3) := by decide +kernel
theorem d_Rt_untilTimer_12 : decode b_Rt_untilTimer 12 = .ok (.invokevirtual 52, 3) := by decide +kernel
theorem d_Rt_untilTimer_15 : decode b_Rt_untilTimer 15 = .ok (.goto 6, 3) := by decide +kernel
theorem d_Rt_untilTimer_18 : decode b_Rt_untilTimer 18 = .ok (.ldc2_w 56, 3) := by decide +kernel
theorem d_Rt_untilTimer_21 : decode b_Rt_untilTimer 21 = .ok (.lreturn, 1) := by decide +kernel
theorem d_Rt_is_0 : decode b_Rt_is 0 = .ok (.aload_n 0, 1) := by decide +kernel
theorem d_Rt_is_1 : decode b_Rt_is 1 = .ok (.getfield 39, 3) := by decide +kernel
theorem d_Rt_is_4 : decode b_Rt_is 4 = .ok (.iload_n 1, 1) := by decide +kernel
theorem d_Rt_is_5 : decode b_Rt_is 5 = .ok (.iand, 1) := by decide +kernel
theorem d_Rt_is_6 : decode b_Rt_is 6 = .ok (.ifCond .eq 7, 3) := by decide +kernel
theorem d_Rt_is_9 : decode b_Rt_is 9 = .ok (.iconst 1, 1) := by decide +kernel
theorem d_Rt_is_10 : decode b_Rt_is 10 = .ok (.goto 4, 3) := by decide +kernel
theorem d_Rt_is_13 : decode b_Rt_is 13 = .ok (.iconst 0, 1) := by decide +kernel
theorem d_Rt_is_14 : decode b_Rt_is 14 = .ok (.ireturn, 1) := by decide +kernel
theorem d_Rt_untilLines_0 : decode b_Rt_untilLines 0 = .ok (.aload_n 0, 1) := by decide +kernel
theorem d_Rt_untilLines_1 : decode b_Rt_untilLines 1 = .ok (.iconst 4, 1) := by decide +kernel
theorem d_Rt_untilLines_2 : decode b_Rt_untilLines 2 = .ok (.invokevirtual 48, 3) := by decide +kernel
theorem d_Rt_untilLines_5 : decode b_Rt_untilLines 5 = .ok (.ifCond .eq 21, 3) := by decide +kernel
theorem d_Rt_untilLines_8 : decode b_Rt_untilLines 8 = .ok (.aload_n 0, 1) := by decide +kernel
theorem d_Rt_untilLines_9 : decode b_Rt_untilLines 9 = .ok (.getfield 21, 3) := by decide +kernel
theorem d_Rt_untilLines_12 : decode b_Rt_untilLines 12 = .ok (.aload_n 0, 1) := by decide +kernel
theorem d_Rt_untilLines_13 : decode b_Rt_untilLines 13 = .ok (.getfield 33, 3) := by decide +kernel
theorem d_Rt_untilLines_16 : decode b_Rt_untilLines 16 = .ok (.aload_n 0, 1) := by decide +kernel
theorem d_Rt_untilLines_17 : decode b_Rt_untilLines 17 = .ok (.getfield 36, 3) := by decide +kernel
theorem d_Rt_untilLines_20 : decode b_Rt_untilLines 20 = .ok (.invokevirtual 58, 3) := by decide +kernel
theorem d_Rt_untilLines_23 : decode b_Rt_untilLines 23 = .ok (.goto 6, 3) := by decide +kernel
theorem d_Rt_untilLines_26 : decode b_Rt_untilLines 26 = .ok (.ldc2_w 56, 3) := by decide +kernel
theorem d_Rt_untilLines_29 : decode b_Rt_untilLines 29 = .ok (.lreturn, 1) := by decide +kernel
theorem d_Rt_take_0 : decode b_Rt_take 0 = .ok (.aload_n 0, 1) := by decide +kernel
theorem d_Rt_take_1 : decode b_Rt_take 1 = .ok (.invokevirtual 85, 3) := by decide +kernel
theorem d_Rt_take_4 : decode b_Rt_take 4 = .ok (.istore_n 1, 1) := by decide +kernel
theorem d_Rt_take_5 : decode b_Rt_take 5 = .ok (.iload_n 1, 1) := by decide +kernel
theorem d_Rt_take_6 : decode b_Rt_take 6 = .ok (.ifCond .le 34, 3) := by decide +kernel
theorem d_Rt_take_9 : decode b_Rt_take 9 = .ok (.aload_n 0, 1) := by decide +kernel
theorem d_Rt_take_10 : decode b_Rt_take 10 = .ok (.aload_n 0, 1) := by decide +kernel
theorem d_Rt_take_11 : decode b_Rt_take 11 = .ok (.getfield 39, 3) := by decide +kernel
theorem d_Rt_take_14 : decode b_Rt_take 14 = .ok (.putfield 42, 3) := by decide +kernel
theorem d_Rt_take_17 : decode b_Rt_take 17 = .ok (.aload_n 0, 1) := by decide +kernel
theorem d_Rt_take_18 : decode b_Rt_take 18 = .ok (.aload_n 0, 1) := by decide +kernel
theorem d_Rt_take_19 : decode b_Rt_take 19 = .ok (.getfield 39, 3) := by decide +kernel
theorem d_Rt_take_22 : decode b_Rt_take 22 = .ok (.bipush 32, 2) := by decide +kernel
theorem d_Rt_take_24 : decode b_Rt_take 24 = .ok (.iand, 1) := by decide +kernel
theorem d_Rt_take_25 : decode b_Rt_take 25 = .ok (.iconst 1, 1) := by decide +kernel
theorem d_Rt_take_26 : decode b_Rt_take 26 = .ok (.ior, 1) := by decide +kernel
theorem d_Rt_take_27 : decode b_Rt_take 27 = .ok (.putfield 39, 3) := by decide +kernel
theorem d_Rt_take_30 : decode b_Rt_take 30 = .ok (.aload_n 0, 1) := by decide +kernel
theorem d_Rt_take_31 : decode b_Rt_take 31 = .ok (.dup, 1) := by decide +kernel
theorem d_Rt_take_32 : decode b_Rt_take 32 = .ok (.getfield 45, 3) := by decide +kernel
theorem d_Rt_take_35 : decode b_Rt_take 35 = .ok (.iconst 1, 1) := by decide +kernel
theorem d_Rt_take_36 : decode b_Rt_take 36 = .ok (.iadd, 1) := by decide +kernel
theorem d_Rt_take_37 : decode b_Rt_take 37 = .ok (.putfield 45, 3) := by decide +kernel
theorem d_Rt_take_40 : decode b_Rt_take 40 = .ok (.iload_n 1, 1) := by decide +kernel
theorem d_Rt_take_41 : decode b_Rt_take 41 = .ok (.ireturn, 1) := by decide +kernel
theorem d_Rt_due_0 : decode b_Rt_due 0 = .ok (.aload_n 0, 1) := by decide +kernel
theorem d_Rt_due_1 : decode b_Rt_due 1 = .ok (.invokevirtual 61, 3) := by decide +kernel
theorem d_Rt_due_4 : decode b_Rt_due 4 = .ok (.lconst 0, 1) := by decide +kernel
theorem d_Rt_due_5 : decode b_Rt_due 5 = .ok (.lcmp, 1) := by decide +kernel
theorem d_Rt_due_6 : decode b_Rt_due 6 = .ok (.ifCond .ne 7, 3) := by decide +kernel
theorem d_Rt_due_9 : decode b_Rt_due 9 = .ok (.iconst 5, 1) := by decide +kernel
theorem d_Rt_due_10 : decode b_Rt_due 10 = .ok (.goto 18, 3) := by decide +kernel
theorem d_Rt_due_13 : decode b_Rt_due 13 = .ok (.aload_n 0, 1) := by decide +kernel
theorem d_Rt_due_14 : decode b_Rt_due 14 = .ok (.invokevirtual 64, 3) := by decide +kernel
theorem d_Rt_due_17 : decode b_Rt_due 17 = .ok (.lconst 0, 1) := by decide +kernel
theorem d_Rt_due_18 : decode b_Rt_due 18 = .ok (.lcmp, 1) := by decide +kernel
theorem d_Rt_due_19 : decode b_Rt_due 19 = .ok (.ifCond .ne 8, 3) := by decide +kernel
theorem d_Rt_due_22 : decode b_Rt_due 22 = .ok (.bipush 8, 2) := by decide +kernel
theorem d_Rt_due_24 : decode b_Rt_due 24 = .ok (.goto 4, 3) := by decide +kernel
theorem d_Rt_due_27 : decode b_Rt_due 27 = .ok (.iconst 0, 1) := by decide +kernel
theorem d_Rt_due_28 : decode b_Rt_due 28 = .ok (.ireturn, 1) := by decide +kernel
theorem d_Rt_back_0 : decode b_Rt_back 0 = .ok (.aload_n 0, 1) := by decide +kernel
theorem d_Rt_back_1 : decode b_Rt_back 1 = .ok (.aload_n 0, 1) := by decide +kernel
theorem d_Rt_back_2 : decode b_Rt_back 2 = .ok (.getfield 42, 3) := by decide +kernel
theorem d_Rt_back_5 : decode b_Rt_back 5 = .ok (.putfield 39, 3) := by decide +kernel
theorem d_Rt_back_8 : decode b_Rt_back 8 = .ok (.return_, 1) := by decide +kernel
theorem d_Rt_mode_0 : decode b_Rt_mode 0 = .ok (.aload_n 0, 1) := by decide +kernel
theorem d_Rt_mode_1 : decode b_Rt_mode 1 = .ok (.iload_n 1, 1) := by decide +kernel
theorem d_Rt_mode_2 : decode b_Rt_mode 2 = .ok (.bipush 39, 2) := by decide +kernel
theorem d_Rt_mode_4 : decode b_Rt_mode 4 = .ok (.iand, 1) := by decide +kernel
theorem d_Rt_mode_5 : decode b_Rt_mode 5 = .ok (.putfield 39, 3) := by decide +kernel
theorem d_Rt_mode_8 : decode b_Rt_mode 8 = .ok (.return_, 1) := by decide +kernel
theorem d_Rt_mask_0 : decode b_Rt_mask 0 = .ok (.aload_n 0, 1) := by decide +kernel
theorem d_Rt_mask_1 : decode b_Rt_mask 1 = .ok (.iload_n 1, 1) := by decide +kernel
theorem d_Rt_mask_2 : decode b_Rt_mask 2 = .ok (.putfield 36, 3) := by decide +kernel
theorem d_Rt_mask_5 : decode b_Rt_mask 5 = .ok (.return_, 1) := by decide +kernel
theorem d_Rt_timer_0 : decode b_Rt_timer 0 = .ok (.aload_n 0, 1) := by decide +kernel
theorem d_Rt_timer_1 : decode b_Rt_timer 1 = .ok (.getfield 14, 3) := by decide +kernel
theorem d_Rt_timer_4 : decode b_Rt_timer 4 = .ok (.iload_n 1, 1) := by decide +kernel
theorem d_Rt_timer_5 : decode b_Rt_timer 5 = .ok (.ldc 89, 2) := by decide +kernel
theorem d_Rt_timer_7 : decode b_Rt_timer 7 = .ok (.iand, 1) := by decide +kernel
theorem d_Rt_timer_8 : decode b_Rt_timer 8 = .ok (.putfield 90, 3) := by decide +kernel
theorem d_Rt_timer_11 : decode b_Rt_timer 11 = .ok (.aload_n 0, 1) := by decide +kernel
theorem d_Rt_timer_12 : decode b_Rt_timer 12 = .ok (.getfield 14, 3) := by decide +kernel
theorem d_Rt_timer_15 : decode b_Rt_timer 15 = .ok (.iload_n 2, 1) := by decide +kernel
theorem d_Rt_timer_16 : decode b_Rt_timer 16 = .ok (.putfield 93, 3) := by decide +kernel
theorem d_Rt_timer_19 : decode b_Rt_timer 19 = .ok (.aload_n 0, 1) := by decide +kernel
theorem d_Rt_timer_20 : decode b_Rt_timer 20 = .ok (.getfield 14, 3) := by decide +kernel
theorem d_Rt_timer_23 : decode b_Rt_timer 23 = .ok (.iload_n 3, 1) := by decide +kernel
theorem d_Rt_timer_24 : decode b_Rt_timer 24 = .ok (.putfield 97, 3) := by decide +kernel
theorem d_Rt_timer_27 : decode b_Rt_timer 27 = .ok (.return_, 1) := by decide +kernel
theorem d_Rt_count_0 : decode b_Rt_count 0 = .ok (.aload_n 0, 1) := by decide +kernel
theorem d_Rt_count_1 : decode b_Rt_count 1 = .ok (.getfield 14, 3) := by decide +kernel
theorem d_Rt_count_4 : decode b_Rt_count 4 = .ok (.iload_n 1, 1) := by decide +kernel
theorem d_Rt_count_5 : decode b_Rt_count 5 = .ok (.putfield 100, 3) := by decide +kernel
theorem d_Rt_count_8 : decode b_Rt_count 8 = .ok (.return_, 1) := by decide +kernel
theorem d_Rt_until_0 : decode b_Rt_until 0 = .ok (.aload_n 0, 1) := by decide +kernel
theorem d_Rt_until_1 : decode b_Rt_until 1 = .ok (.invokevirtual 61, 3) := by decide +kernel
theorem d_Rt_until_4 : decode b_Rt_until 4 = .ok (.aload_n 0, 1) := by decide +kernel
theorem d_Rt_until_5 : decode b_Rt_until 5 = .ok (.invokevirtual 64, 3) := by decide +kernel
theorem d_Rt_until_8 : decode b_Rt_until 8 = .ok (.invokestatic 75, 3) := by decide +kernel
theorem d_Rt_until_11 : decode b_Rt_until 11 = .ok (.lstore_n 1, 1) := by decide +kernel
theorem d_Rt_until_12 : decode b_Rt_until 12 = .ok (.lload_n 1, 1) := by decide +kernel
theorem d_Rt_until_13 : decode b_Rt_until 13 = .ok (.ldc2_w 73, 3) := by decide +kernel
theorem d_Rt_until_16 : decode b_Rt_until 16 = .ok (.aload_n 0, 1) := by decide +kernel
theorem d_Rt_until_17 : decode b_Rt_until 17 = .ok (.getfield 33, 3) := by decide +kernel
theorem d_Rt_until_20 : decode b_Rt_until 20 = .ok (.i2l, 1) := by decide +kernel
theorem d_Rt_until_21 : decode b_Rt_until 21 = .ok (.lsub, 1) := by decide +kernel
theorem d_Rt_until_22 : decode b_Rt_until 22 = .ok (.lcmp, 1) := by decide +kernel
theorem d_Rt_until_23 : decode b_Rt_until 23 = .ok (.ifCond .le 7, 3) := by decide +kernel
theorem d_Rt_until_26 : decode b_Rt_until 26 = .ok (.iconst (-1), 1) := by decide +kernel
theorem d_Rt_until_27 : decode b_Rt_until 27 = .ok (.goto 5, 3) := by decide +kernel
theorem d_Rt_until_30 : decode b_Rt_until 30 = .ok (.lload_n 1, 1) := by decide +kernel
theorem d_Rt_until_31 : decode b_Rt_until 31 = .ok (.l2i, 1) := by decide +kernel
theorem d_Rt_until_32 : decode b_Rt_until 32 = .ok (.ireturn, 1) := by decide +kernel
theorem d_Rt_linesAt_0 : decode b_Rt_linesAt 0 = .ok (.iload_n 1, 1) := by decide +kernel
theorem d_Rt_linesAt_1 : decode b_Rt_linesAt 1 = .ok (.ifCond .ge 7, 3) := by decide +kernel
theorem d_Rt_linesAt_4 : decode b_Rt_linesAt 4 = .ok (.iconst 0, 1) := by decide +kernel
theorem d_Rt_linesAt_5 : decode b_Rt_linesAt 5 = .ok (.goto 11, 3) := by decide +kernel
theorem d_Rt_linesAt_8 : decode b_Rt_linesAt 8 = .ok (.aload_n 0, 1) := by decide +kernel
theorem d_Rt_linesAt_9 : decode b_Rt_linesAt 9 = .ok (.getfield 21, 3) := by decide +kernel
theorem d_Rt_linesAt_12 : decode b_Rt_linesAt 12 = .ok (.iload_n 1, 1) := by decide +kernel
theorem d_Rt_linesAt_13 : decode b_Rt_linesAt 13 = .ok (.invokevirtual 103, 3) := by decide +kernel
theorem d_Rt_linesAt_16 : decode b_Rt_linesAt 16 = .ok (.ireturn, 1) := by decide +kernel
theorem d_Rt_entryOf_0 : decode b_Rt_entryOf 0 = .ok (.iload_n 1, 1) := by decide +kernel
theorem d_Rt_entryOf_1 : decode b_Rt_entryOf 1 = .ok (.ifCond .lt 14, 3) := by decide +kernel
theorem d_Rt_entryOf_4 : decode b_Rt_entryOf 4 = .ok (.iload_n 1, 1) := by decide +kernel
theorem d_Rt_entryOf_5 : decode b_Rt_entryOf 5 = .ok (.aload_n 0, 1) := by decide +kernel
theorem d_Rt_entryOf_6 : decode b_Rt_entryOf 6 = .ok (.getfield 21, 3) := by decide +kernel
theorem d_Rt_entryOf_9 : decode b_Rt_entryOf 9 = .ok (.getfield 29, 3) := by decide +kernel
theorem d_Rt_entryOf_12 : decode b_Rt_entryOf 12 = .ok (.if_icmp .lt 7, 3) := by decide +kernel
theorem d_Rt_entryOf_15 : decode b_Rt_entryOf 15 = .ok (.iconst (-1), 1) := by decide +kernel
theorem d_Rt_entryOf_16 : decode b_Rt_entryOf 16 = .ok (.goto 28, 3) := by decide +kernel
theorem d_Rt_entryOf_19 : decode b_Rt_entryOf 19 = .ok (.iload_n 2, 1) := by decide +kernel
theorem d_Rt_entryOf_20 : decode b_Rt_entryOf 20 = .ok (.ifCond .eq 15, 3) := by decide +kernel
theorem d_Rt_entryOf_23 : decode b_Rt_entryOf 23 = .ok (.aload_n 0, 1) := by decide +kernel
theorem d_Rt_entryOf_24 : decode b_Rt_entryOf 24 = .ok (.getfield 21, 3) := by decide +kernel
theorem d_Rt_entryOf_27 : decode b_Rt_entryOf 27 = .ok (.getfield 107, 3) := by decide +kernel
theorem d_Rt_entryOf_30 : decode b_Rt_entryOf 30 = .ok (.iload_n 1, 1) := by decide +kernel
theorem d_Rt_entryOf_31 : decode b_Rt_entryOf 31 = .ok (.iaload, 1) := by decide +kernel
theorem d_Rt_entryOf_32 : decode b_Rt_entryOf 32 = .ok (.goto 12, 3) := by decide +kernel
theorem d_Rt_entryOf_35 : decode b_Rt_entryOf 35 = .ok (.aload_n 0, 1) := by decide +kernel
theorem d_Rt_entryOf_36 : decode b_Rt_entryOf 36 = .ok (.getfield 21, 3) := by decide +kernel
theorem d_Rt_entryOf_39 : decode b_Rt_entryOf 39 = .ok (.getfield 111, 3) := by decide +kernel
theorem d_Rt_entryOf_42 : decode b_Rt_entryOf 42 = .ok (.iload_n 1, 1) := by decide +kernel
theorem d_Rt_entryOf_43 : decode b_Rt_entryOf 43 = .ok (.iaload, 1) := by decide +kernel
theorem d_Rt_entryOf_44 : decode b_Rt_entryOf 44 = .ok (.ireturn, 1) := by decide +kernel
theorem d_Rt_look_0 : decode b_Rt_look 0 = .ok (.iload_n 1, 1) := by decide +kernel
theorem d_Rt_look_1 : decode b_Rt_look 1 = .ok (.tableswitch 161 0 11 #[63, 68, 76, 84, 100, 116, 121, 133, 138, 143, 148, 156], 63) := by decide +kernel
theorem d_Rt_look_64 : decode b_Rt_look 64 = .ok (.aload_n 0, 1) := by decide +kernel
theorem d_Rt_look_65 : decode b_Rt_look 65 = .ok (.getfield 33, 3) := by decide +kernel
theorem d_Rt_look_68 : decode b_Rt_look 68 = .ok (.ireturn, 1) := by decide +kernel
theorem d_Rt_look_69 : decode b_Rt_look 69 = .ok (.aload_n 0, 1) := by decide +kernel
theorem d_Rt_look_70 : decode b_Rt_look 70 = .ok (.getfield 14, 3) := by decide +kernel
theorem d_Rt_look_73 : decode b_Rt_look 73 = .ok (.getfield 100, 3) := by decide +kernel
theorem d_Rt_look_76 : decode b_Rt_look 76 = .ok (.ireturn, 1) := by decide +kernel
theorem d_Rt_look_77 : decode b_Rt_look 77 = .ok (.aload_n 0, 1) := by decide +kernel
theorem d_Rt_look_78 : decode b_Rt_look 78 = .ok (.getfield 14, 3) := by decide +kernel
theorem d_Rt_look_81 : decode b_Rt_look 81 = .ok (.getfield 90, 3) := by decide +kernel
theorem d_Rt_look_84 : decode b_Rt_look 84 = .ok (.ireturn, 1) := by decide +kernel
theorem d_Rt_look_85 : decode b_Rt_look 85 = .ok (.aload_n 0, 1) := by decide +kernel
theorem d_Rt_look_86 : decode b_Rt_look 86 = .ok (.getfield 14, 3) := by decide +kernel
theorem d_Rt_look_89 : decode b_Rt_look 89 = .ok (.getfield 97, 3) := by decide +kernel
theorem d_Rt_look_92 : decode b_Rt_look 92 = .ok (.ifCond .eq 7, 3) := by decide +kernel
theorem d_Rt_look_95 : decode b_Rt_look 95 = .ok (.iconst 1, 1) := by decide +kernel
theorem d_Rt_look_96 : decode b_Rt_look 96 = .ok (.goto 4, 3) := by decide +kernel
theorem d_Rt_look_99 : decode b_Rt_look 99 = .ok (.iconst 0, 1) := by decide +kernel
theorem d_Rt_look_100 : decode b_Rt_look 100 = .ok (.ireturn, 1) := by decide +kernel
theorem d_Rt_look_101 : decode b_Rt_look 101 = .ok (.aload_n 0, 1) := by decide +kernel
theorem d_Rt_look_102 : decode b_Rt_look 102 = .ok (.getfield 14, 3) := by decide +kernel
theorem d_Rt_look_105 : decode b_Rt_look 105 = .ok (.getfield 93, 3) := by decide +kernel
theorem d_Rt_look_108 : decode b_Rt_look 108 = .ok (.ifCond .eq 7, 3) := by decide +kernel
theorem d_Rt_look_111 : decode b_Rt_look 111 = .ok (.iconst 1, 1) := by decide +kernel
theorem d_Rt_look_112 : decode b_Rt_look 112 = .ok (.goto 4, 3) := by decide +kernel
theorem d_Rt_look_115 : decode b_Rt_look 115 = .ok (.iconst 0, 1) := by decide +kernel
theorem d_Rt_look_116 : decode b_Rt_look 116 = .ok (.ireturn, 1) := by decide +kernel
theorem d_Rt_look_117 : decode b_Rt_look 117 = .ok (.aload_n 0, 1) := by decide +kernel
theorem d_Rt_look_118 : decode b_Rt_look 118 = .ok (.getfield 36, 3) := by decide +kernel
theorem d_Rt_look_121 : decode b_Rt_look 121 = .ok (.ireturn, 1) := by decide +kernel
theorem d_Rt_look_122 : decode b_Rt_look 122 = .ok (.aload_n 0, 1) := by decide +kernel
theorem d_Rt_look_123 : decode b_Rt_look 123 = .ok (.getfield 21, 3) := by decide +kernel
theorem d_Rt_look_126 : decode b_Rt_look 126 = .ok (.aload_n 0, 1) := by decide +kernel
theorem d_Rt_look_127 : decode b_Rt_look 127 = .ok (.getfield 33, 3) := by decide +kernel
theorem d_Rt_look_130 : decode b_Rt_look 130 = .ok (.invokevirtual 103, 3) := by decide +kernel
theorem d_Rt_look_133 : decode b_Rt_look 133 = .ok (.ireturn, 1) := by decide +kernel
theorem d_Rt_look_134 : decode b_Rt_look 134 = .ok (.aload_n 0, 1) := by decide +kernel
theorem d_Rt_look_135 : decode b_Rt_look 135 = .ok (.getfield 39, 3) := by decide +kernel
theorem d_Rt_look_138 : decode b_Rt_look 138 = .ok (.ireturn, 1) := by decide +kernel
theorem d_Rt_look_139 : decode b_Rt_look 139 = .ok (.aload_n 0, 1) := by decide +kernel
theorem d_Rt_look_140 : decode b_Rt_look 140 = .ok (.getfield 42, 3) := by decide +kernel
theorem d_Rt_look_143 : decode b_Rt_look 143 = .ok (.ireturn, 1) := by decide +kernel
theorem d_Rt_look_144 : decode b_Rt_look 144 = .ok (.aload_n 0, 1) := by decide +kernel
theorem d_Rt_look_145 : decode b_Rt_look 145 = .ok (.getfield 45, 3) := by decide +kernel
theorem d_Rt_look_148 : decode b_Rt_look 148 = .ok (.ireturn, 1) := by decide +kernel
theorem d_Rt_look_149 : decode b_Rt_look 149 = .ok (.aload_n 0, 1) := by decide +kernel
theorem d_Rt_look_150 : decode b_Rt_look 150 = .ok (.getfield 21, 3) := by decide +kernel
theorem d_Rt_look_153 : decode b_Rt_look 153 = .ok (.getfield 29, 3) := by decide +kernel
theorem d_Rt_look_156 : decode b_Rt_look 156 = .ok (.ireturn, 1) := by decide +kernel
theorem d_Rt_look_157 : decode b_Rt_look 157 = .ok (.aload_n 0, 1) := by decide +kernel
theorem d_Rt_look_158 : decode b_Rt_look 158 = .ok (.invokevirtual 85, 3) := by decide +kernel
theorem d_Rt_look_161 : decode b_Rt_look 161 = .ok (.ireturn, 1) := by decide +kernel
theorem d_Rt_look_162 : decode b_Rt_look 162 = .ok (.iconst (-1), 1) := by decide +kernel
theorem d_Rt_look_163 : decode b_Rt_look 163 = .ok (.ireturn, 1) := by decide +kernel
end
section
theorem d_Md_init_0 : decode b_Md_init 0 = .ok (.aload_n 0, 1) := by decide +kernel
theorem d_Md_init_1 : decode b_Md_init 1 = .ok (.invokespecial 1, 3) := by decide +kernel
theorem d_Md_init_4 : decode b_Md_init 4 = .ok (.aload_n 0, 1) := by decide +kernel
theorem d_Md_init_5 : decode b_Md_init 5 = .ok (.iconst 1, 1) := by decide +kernel
theorem d_Md_init_6 : decode b_Md_init 6 = .ok (.putfield 7, 3) := by decide +kernel
theorem d_Md_init_9 : decode b_Md_init 9 = .ok (.aload_n 0, 1) := by decide +kernel
theorem d_Md_init_10 : decode b_Md_init 10 = .ok (.bipush 32, 2) := by decide +kernel
theorem d_Md_init_12 : decode b_Md_init 12 = .ok (.newarray .int, 2) := by decide +kernel
theorem d_Md_init_14 : decode b_Md_init 14 = .ok (.putfield 13, 3) := by decide +kernel
theorem d_Md_init_17 : decode b_Md_init 17 = .ok (.aload_n 0, 1) := by decide +kernel
theorem d_Md_init_18 : decode b_Md_init 18 = .ok (.bipush 32, 2) := by decide +kernel
theorem d_Md_init_20 : decode b_Md_init 20 = .ok (.newarray .int, 2) := by decide +kernel
theorem d_Md_init_22 : decode b_Md_init 22 = .ok (.putfield 17, 3) := by decide +kernel
theorem d_Md_init_25 : decode b_Md_init 25 = .ok (.return_, 1) := by decide +kernel
theorem d_Md_entry_0 : decode b_Md_entry 0 = .ok (.aload_n 0, 1) := by decide +kernel
theorem d_Md_entry_1 : decode b_Md_entry 1 = .ok (.iconst 0, 1) := by decide +kernel
theorem d_Md_entry_2 : decode b_Md_entry 2 = .ok (.putfield 20, 3) := by decide +kernel
theorem d_Md_entry_5 : decode b_Md_entry 5 = .ok (.iload_n 1, 1) := by decide +kernel
theorem d_Md_entry_6 : decode b_Md_entry 6 = .ok (.ifCond .lt 45, 3) := by decide +kernel
theorem d_Md_entry_9 : decode b_Md_entry 9 = .ok (.aload_n 0, 1) := by decide +kernel
theorem d_Md_entry_10 : decode b_Md_entry 10 = .ok (.getfield 26, 3) := by decide +kernel
theorem d_Md_entry_13 : decode b_Md_entry 13 = .ok (.bipush 32, 2) := by decide +kernel
theorem d_Md_entry_15 : decode b_Md_entry 15 = .ok (.if_icmp .eq 36, 3) := by decide +kernel
theorem d_Md_entry_18 : decode b_Md_entry 18 = .ok (.aload_n 0, 1) := by decide +kernel
theorem d_Md_entry_19 : decode b_Md_entry 19 = .ok (.getfield 26, 3) := by decide +kernel
theorem d_Md_entry_22 : decode b_Md_entry 22 = .ok (.ifCond .le 31, 3) := by decide +kernel
theorem d_Md_entry_25 : decode b_Md_entry 25 = .ok (.iload_n 1, 1) := by decide +kernel
theorem d_Md_entry_26 : decode b_Md_entry 26 = .ok (.aload_n 0, 1) := by decide +kernel
theorem d_Md_entry_27 : decode b_Md_entry 27 = .ok (.getfield 13, 3) := by decide +kernel
theorem d_Md_entry_30 : decode b_Md_entry 30 = .ok (.aload_n 0, 1) := by decide +kernel
theorem d_Md_entry_31 : decode b_Md_entry 31 = .ok (.getfield 26, 3) := by decide +kernel
theorem d_Md_entry_34 : decode b_Md_entry 34 = .ok (.ifCond .le 12, 3) := by decide +kernel
theorem d_Md_entry_37 : decode b_Md_entry 37 = .ok (.aload_n 0, 1) := by decide +kernel
theorem d_Md_entry_38 : decode b_Md_entry 38 = .ok (.getfield 26, 3) := by decide +kernel
theorem d_Md_entry_41 : decode b_Md_entry 41 = .ok (.iconst 1, 1) := by decide +kernel
theorem d_Md_entry_42 : decode b_Md_entry 42 = .ok (.isub, 1) := by decide +kernel
theorem d_Md_entry_43 : decode b_Md_entry 43 = .ok (.goto 4, 3) := by decide +kernel
theorem d_Md_entry_46 : decode b_Md_entry 46 = .ok (.iconst 0, 1) := by decide +kernel
theorem d_Md_entry_47 : decode b_Md_entry 47 = .ok (.iaload, 1) := by decide +kernel
theorem d_Md_entry_48 : decode b_Md_entry 48 = .ok (.if_icmp .gt 5, 3) := by decide +kernel
theorem d_Md_entry_51 : decode b_Md_entry 51 = .ok (.iconst 0, 1) := by decide +kernel
theorem d_Md_entry_52 : decode b_Md_entry 52 = .ok (.ireturn, 1) := by decide +kernel
theorem d_Md_entry_53 : decode b_Md_entry 53 = .ok (.aload_n 0, 1) := by decide +kernel
theorem d_Md_entry_54 : decode b_Md_entry 54 = .ok (.getfield 13, 3) := by decide +kernel
theorem d_Md_entry_57 : decode b_Md_entry 57 = .ok (.aload_n 0, 1) := by decide +kernel
theorem d_Md_entry_58 : decode b_Md_entry 58 = .ok (.getfield 26, 3) := by decide +kernel
theorem d_Md_entry_61 : decode b_Md_entry 61 = .ok (.iload_n 1, 1) := by decide +kernel
theorem d_Md_entry_62 : decode b_Md_entry 62 = .ok (.iastore, 1) := by decide +kernel
theorem d_Md_entry_63 : decode b_Md_entry 63 = .ok (.aload_n 0, 1) := by decide +kernel
theorem d_Md_entry_64 : decode b_Md_entry 64 = .ok (.getfield 17, 3) := by decide +kernel
theorem d_Md_entry_67 : decode b_Md_entry 67 = .ok (.aload_n 0, 1) := by decide +kernel
theorem d_Md_entry_68 : decode b_Md_entry 68 = .ok (.getfield 26, 3) := by decide +kernel
theorem d_Md_entry_71 : decode b_Md_entry 71 = .ok (.iload_n 2, 1) := by decide +kernel
theorem d_Md_entry_72 : decode b_Md_entry 72 = .ok (.iastore, 1) := by decide +kernel
theorem d_Md_entry_73 : decode b_Md_entry 73 = .ok (.aload_n 0, 1) := by decide +kernel
theorem d_Md_entry_74 : decode b_Md_entry 74 = .ok (.dup, 1) := by decide +kernel
theorem d_Md_entry_75 : decode b_Md_entry 75 = .ok (.getfield 26, 3) := by decide +kernel
theorem d_Md_entry_78 : decode b_Md_entry 78 = .ok (.iconst 1, 1) := by decide +kernel
theorem d_Md_entry_79 : decode b_Md_entry 79 = .ok (.iadd, 1) := by decide +kernel
theorem d_Md_entry_80 : decode b_Md_entry 80 = .ok (.putfield 26, 3) := by decide +kernel
theorem d_Md_entry_83 : decode b_Md_entry 83 = .ok (.aload_n 0, 1) := by decide +kernel
theorem d_Md_entry_84 : decode b_Md_entry 84 = .ok (.invokevirtual 43, 3) := by decide +kernel
theorem d_Md_entry_87 : decode b_Md_entry 87 = .ok (.iconst 1, 1) := by decide +kernel
theorem d_Md_entry_88 : decode b_Md_entry 88 = .ok (.ireturn, 1) := by decide +kernel
theorem d_Md_goOn_0 : decode b_Md_goOn 0 = .ok (.aload_n 0, 1) := by decide +kernel
theorem d_Md_goOn_1 : decode b_Md_goOn 1 = .ok (.getfield 23, 3) := by decide +kernel
theorem d_Md_goOn_4 : decode b_Md_goOn 4 = .ok (.aload_n 0, 1) := by decide +kernel
theorem d_Md_goOn_5 : decode b_Md_goOn 5 = .ok (.getfield 26, 3) := by decide +kernel
theorem d_Md_goOn_8 : decode b_Md_goOn 8 = .ok (.if_icmp .ge 32, 3) := by decide +kernel
theorem d_Md_goOn_11 : decode b_Md_goOn 11 = .ok (.aload_n 0, 1) := by decide +kernel
theorem d_Md_goOn_12 : decode b_Md_goOn 12 = .ok (.getfield 13, 3) := by decide +kernel
theorem d_Md_goOn_15 : decode b_Md_goOn 15 = .ok (.aload_n 0, 1) := by decide +kernel
theorem d_Md_goOn_16 : decode b_Md_goOn 16 = .ok (.getfield 23, 3) := by decide +kernel
theorem d_Md_goOn_19 : decode b_Md_goOn 19 = .ok (.iaload, 1) := by decide +kernel
theorem d_Md_goOn_20 : decode b_Md_goOn 20 = .ok (.aload_n 0, 1) := by decide +kernel
theorem d_Md_goOn_21 : decode b_Md_goOn 21 = .ok (.getfield 29, 3) := by decide +kernel
theorem d_Md_goOn_24 : decode b_Md_goOn 24 = .ok (.if_icmp .gt 16, 3) := by decide +kernel
theorem d_Md_goOn_27 : decode b_Md_goOn 27 = .ok (.aload_n 0, 1) := by decide +kernel
theorem d_Md_goOn_28 : decode b_Md_goOn 28 = .ok (.dup, 1) := by decide +kernel
theorem d_Md_goOn_29 : decode b_Md_goOn 29 = .ok (.getfield 23, 3) := by decide +kernel
theorem d_Md_goOn_32 : decode b_Md_goOn 32 = .ok (.iconst 1, 1) := by decide +kernel
theorem d_Md_goOn_33 : decode b_Md_goOn 33 = .ok (.iadd, 1) := by decide +kernel
theorem d_Md_goOn_34 : decode b_Md_goOn 34 = .ok (.putfield 23, 3) := by decide +kernel
theorem d_Md_goOn_37 : decode b_Md_goOn 37 = .ok (.goto (-37), 3) := by decide +kernel
theorem d_Md_goOn_40 : decode b_Md_goOn 40 = .ok (.return_, 1) := by decide +kernel
theorem d_Md_steps_0 : decode b_Md_steps 0 = .ok (.aload_n 0, 1) := by decide +kernel
theorem d_Md_steps_1 : decode b_Md_steps 1 = .ok (.iconst 0, 1) := by decide +kernel
theorem d_Md_steps_2 : decode b_Md_steps 2 = .ok (.putfield 20, 3) := by decide +kernel
theorem d_Md_steps_5 : decode b_Md_steps 5 = .ok (.iload_n 1, 1) := by decide +kernel
theorem d_Md_steps_6 : decode b_Md_steps 6 = .ok (.iconst 1, 1) := by decide +kernel
theorem d_Md_steps_7 : decode b_Md_steps 7 = .ok (.if_icmp .lt 21, 3) := by decide +kernel
theorem d_Md_steps_10 : decode b_Md_steps 10 = .ok (.iload_n 1, 1) := by decide +kernel
theorem d_Md_steps_11 : decode b_Md_steps 11 = .ok (.sipush 20000, 3) := by decide +kernel
theorem d_Md_steps_14 : decode b_Md_steps 14 = .ok (.if_icmp .gt 14, 3) := by decide +kernel
theorem d_Md_steps_17 : decode b_Md_steps 17 = .ok (.aload_n 0, 1) := by decide +kernel
theorem d_Md_steps_18 : decode b_Md_steps 18 = .ok (.getfield 29, 3) := by decide +kernel
theorem d_Md_steps_21 : decode b_Md_steps 21 = .ok (.ldc 55, 2) := by decide +kernel
theorem d_Md_steps_23 : decode b_Md_steps 23 = .ok (.iload_n 1, 1) := by decide +kernel
theorem d_Md_steps_24 : decode b_Md_steps 24 = .ok (.isub, 1) := by decide +kernel
theorem d_Md_steps_25 : decode b_Md_steps 25 = .ok (.if_icmp .le 5, 3) := by decide +kernel
theorem d_Md_steps_28 : decode b_Md_steps 28 = .ok (.iconst (-1), 1) := by decide +kernel
theorem d_Md_steps_29 : decode b_Md_steps 29 = .ok (.ireturn, 1) := by decide +kernel
theorem d_Md_steps_30 : decode b_Md_steps 30 = .ok (.iconst 0, 1) := by decide +kernel
theorem d_Md_steps_31 : decode b_Md_steps 31 = .ok (.istore_n 2, 1) := by decide +kernel
theorem d_Md_steps_32 : decode b_Md_steps 32 = .ok (.iload_n 2, 1) := by decide +kernel
theorem d_Md_steps_33 : decode b_Md_steps 33 = .ok (.iload_n 1, 1) := by decide +kernel
theorem d_Md_steps_34 : decode b_Md_steps 34 = .ok (.if_icmp .ge 20, 3) := by decide +kernel
theorem d_Md_steps_37 : decode b_Md_steps 37 = .ok (.aload_n 0, 1) := by decide +kernel
theorem d_Md_steps_38 : decode b_Md_steps 38 = .ok (.invokevirtual 56, 3) := by decide +kernel
theorem d_Md_steps_41 : decode b_Md_steps 41 = .ok (.ifCond .ne 13, 3) := by decide +kernel
theorem d_Md_steps_44 : decode b_Md_steps 44 = .ok (.aload_n 0, 1) := by decide +kernel
theorem d_Md_steps_45 : decode b_Md_steps 45 = .ok (.invokevirtual 59, 3) := by decide +kernel
theorem d_Md_steps_48 : decode b_Md_steps 48 = .ok (.iinc 2 1, 3) := by decide +kernel
theorem d_Md_steps_51 : decode b_Md_steps 51 = .ok (.goto (-19), 3) := by decide +kernel
theorem d_Md_steps_54 : decode b_Md_steps 54 = .ok (.iload_n 2, 1) := by decide +kernel
theorem d_Md_steps_55 : decode b_Md_steps 55 = .ok (.ireturn, 1) := by decide +kernel
theorem d_Md_due_0 : decode b_Md_due 0 = .ok (.aload_n 0, 1) := by decide +kernel
theorem d_Md_due_1 : decode b_Md_due 1 = .ok (.getfield 7, 3) := by decide +kernel
theorem d_Md_due_4 : decode b_Md_due 4 = .ok (.iconst 2, 1) := by decide +kernel
theorem d_Md_due_5 : decode b_Md_due 5 = .ok (.iand, 1) := by decide +kernel
theorem d_Md_due_6 : decode b_Md_due 6 = .ok (.ifCond .eq 12, 3) := by decide +kernel
theorem d_Md_due_9 : decode b_Md_due 9 = .ok (.aload_n 0, 1) := by decide +kernel
theorem d_Md_due_10 : decode b_Md_due 10 = .ok (.getfield 32, 3) := by decide +kernel
theorem d_Md_due_13 : decode b_Md_due 13 = .ok (.ifCond .eq 5, 3) := by decide +kernel
theorem d_Md_due_16 : decode b_Md_due 16 = .ok (.iconst 5, 1) := by decide +kernel
theorem d_Md_due_17 : decode b_Md_due 17 = .ok (.ireturn, 1) := by decide +kernel
theorem d_Md_due_18 : decode b_Md_due 18 = .ok (.aload_n 0, 1) := by decide +kernel
theorem d_Md_due_19 : decode b_Md_due 19 = .ok (.getfield 7, 3) := by decide +kernel
theorem d_Md_due_22 : decode b_Md_due 22 = .ok (.iconst 4, 1) := by decide +kernel
theorem d_Md_due_23 : decode b_Md_due 23 = .ok (.iand, 1) := by decide +kernel
theorem d_Md_due_24 : decode b_Md_due 24 = .ok (.ifCond .eq 20, 3) := by decide +kernel
theorem d_Md_due_27 : decode b_Md_due 27 = .ok (.aload_n 0, 1) := by decide +kernel
theorem d_Md_due_28 : decode b_Md_due 28 = .ok (.invokevirtual 36, 3) := by decide +kernel
theorem d_Md_due_31 : decode b_Md_due 31 = .ok (.aload_n 0, 1) := by decide +kernel
theorem d_Md_due_32 : decode b_Md_due 32 = .ok (.getfield 40, 3) := by decide +kernel
theorem d_Md_due_35 : decode b_Md_due 35 = .ok (.iand, 1) := by decide +kernel
theorem d_Md_due_36 : decode b_Md_due 36 = .ok (.ifCond .eq 8, 3) := by decide +kernel
theorem d_Md_due_39 : decode b_Md_due 39 = .ok (.bipush 8, 2) := by decide +kernel
theorem d_Md_due_41 : decode b_Md_due 41 = .ok (.goto 4, 3) := by decide +kernel
theorem d_Md_due_44 : decode b_Md_due 44 = .ok (.iconst 0, 1) := by decide +kernel
theorem d_Md_due_45 : decode b_Md_due 45 = .ok (.ireturn, 1) := by decide +kernel
theorem d_Md_linesNow_0 : decode b_Md_linesNow 0 = .ok (.aload_n 0, 1) := by decide +kernel
theorem d_Md_linesNow_1 : decode b_Md_linesNow 1 = .ok (.getfield 23, 3) := by decide +kernel
theorem d_Md_linesNow_4 : decode b_Md_linesNow 4 = .ok (.ifCond .le 17, 3) := by decide +kernel
theorem d_Md_linesNow_7 : decode b_Md_linesNow 7 = .ok (.aload_n 0, 1) := by decide +kernel
theorem d_Md_linesNow_8 : decode b_Md_linesNow 8 = .ok (.getfield 17, 3) := by decide +kernel
theorem d_Md_linesNow_11 : decode b_Md_linesNow 11 = .ok (.aload_n 0, 1) := by decide +kernel
theorem d_Md_linesNow_12 : decode b_Md_linesNow 12 = .ok (.getfield 23, 3) := by decide +kernel
theorem d_Md_linesNow_15 : decode b_Md_linesNow 15 = .ok (.iconst 1, 1) := by decide +kernel
theorem d_Md_linesNow_16 : decode b_Md_linesNow 16 = .ok (.isub, 1) := by decide +kernel
theorem d_Md_linesNow_17 : decode b_Md_linesNow 17 = .ok (.iaload, 1) := by decide +kernel
theorem d_Md_linesNow_18 : decode b_Md_linesNow 18 = .ok (.goto 4, 3) := by decide +kernel
theorem d_Md_linesNow_21 : decode b_Md_linesNow 21 = .ok (.iconst 0, 1) := by decide +kernel
theorem d_Md_linesNow_22 : decode b_Md_linesNow 22 = .ok (.ireturn, 1) := by decide +kernel
theorem d_Md_step_0 : decode b_Md_step 0 = .ok (.aload_n 0, 1) := by decide +kernel
theorem d_Md_step_1 : decode b_Md_step 1 = .ok (.dup, 1) := by decide +kernel
theorem d_Md_step_2 : decode b_Md_step 2 = .ok (.getfield 29, 3) := by decide +kernel
theorem d_Md_step_5 : decode b_Md_step 5 = .ok (.iconst 1, 1) := by decide +kernel
theorem d_Md_step_6 : decode b_Md_step 6 = .ok (.iadd, 1) := by decide +kernel
theorem d_Md_step_7 : decode b_Md_step 7 = .ok (.putfield 29, 3) := by decide +kernel
theorem d_Md_step_10 : decode b_Md_step 10 = .ok (.aload_n 0, 1) := by decide +kernel
theorem d_Md_step_11 : decode b_Md_step 11 = .ok (.getfield 46, 3) := by decide +kernel
theorem d_Md_step_14 : decode b_Md_step 14 = .ok (.ifCond .eq 34, 3) := by decide +kernel
theorem d_Md_step_17 : decode b_Md_step 17 = .ok (.aload_n 0, 1) := by decide +kernel
theorem d_Md_step_18 : decode b_Md_step 18 = .ok (.dup, 1) := by decide +kernel
theorem d_Md_step_19 : decode b_Md_step 19 = .ok (.getfield 49, 3) := by decide +kernel
theorem d_Md_step_22 : decode b_Md_step 22 = .ok (.iconst 1, 1) := by decide +kernel
theorem d_Md_step_23 : decode b_Md_step 23 = .ok (.iadd, 1) := by decide +kernel
theorem d_Md_step_24 : decode b_Md_step 24 = .ok (.putfield 49, 3) := by decide +kernel
theorem d_Md_step_27 : decode b_Md_step 27 = .ok (.aload_n 0, 1) := by decide +kernel
theorem d_Md_step_28 : decode b_Md_step 28 = .ok (.getfield 49, 3) := by decide +kernel
theorem d_Md_step_31 : decode b_Md_step 31 = .ok (.aload_n 0, 1) := by decide +kernel
theorem d_Md_step_32 : decode b_Md_step 32 = .ok (.getfield 52, 3) := by decide +kernel
theorem d_Md_step_35 : decode b_Md_step 35 = .ok (.if_icmp .ne 13, 3) := by decide +kernel
theorem d_Md_step_38 : decode b_Md_step 38 = .ok (.aload_n 0, 1) := by decide +kernel
theorem d_Md_step_39 : decode b_Md_step 39 = .ok (.iconst 1, 1) := by decide +kernel
theorem d_Md_step_40 : decode b_Md_step 40 = .ok (.putfield 32, 3) := by decide +kernel
theorem d_Md_step_43 : decode b_Md_step 43 = .ok (.aload_n 0, 1) := by decide +kernel
theorem d_Md_step_44 : decode b_Md_step 44 = .ok (.iconst 0, 1) := by decide +kernel
theorem d_Md_step_45 : decode b_Md_step 45 = .ok (.putfield 49, 3) := by decide +kernel
theorem d_Md_step_48 : decode b_Md_step 48 = .ok (.aload_n 0, 1) := by decide +kernel
theorem d_Md_step_49 : decode b_Md_step 49 = .ok (.invokevirtual 43, 3) := by decide +kernel
theorem d_Md_step_52 : decode b_Md_step 52 = .ok (.return_, 1) := by decide +kernel
theorem d_Md_take_0 : decode b_Md_take 0 = .ok (.aload_n 0, 1) := by decide +kernel
theorem d_Md_take_1 : decode b_Md_take 1 = .ok (.iconst 0, 1) := by decide +kernel
theorem d_Md_take_2 : decode b_Md_take 2 = .ok (.putfield 20, 3) := by decide +kernel
theorem d_Md_take_5 : decode b_Md_take 5 = .ok (.aload_n 0, 1) := by decide +kernel
theorem d_Md_take_6 : decode b_Md_take 6 = .ok (.invokevirtual 56, 3) := by decide +kernel
theorem d_Md_take_9 : decode b_Md_take 9 = .ok (.istore_n 1, 1) := by decide +kernel
theorem d_Md_take_10 : decode b_Md_take 10 = .ok (.iload_n 1, 1) := by decide +kernel
theorem d_Md_take_11 : decode b_Md_take 11 = .ok (.ifCond .le 34, 3) := by decide +kernel
theorem d_Md_take_14 : decode b_Md_take 14 = .ok (.aload_n 0, 1) := by decide +kernel
theorem d_Md_take_15 : decode b_Md_take 15 = .ok (.aload_n 0, 1) := by decide +kernel
theorem d_Md_take_16 : decode b_Md_take 16 = .ok (.getfield 7, 3) := by decide +kernel
theorem d_Md_take_19 : decode b_Md_take 19 = .ok (.putfield 62, 3) := by decide +kernel
theorem d_Md_take_22 : decode b_Md_take 22 = .ok (.aload_n 0, 1) := by decide +kernel
theorem d_Md_take_23 : decode b_Md_take 23 = .ok (.aload_n 0, 1) := by decide +kernel
theorem d_Md_take_24 : decode b_Md_take 24 = .ok (.getfield 7, 3) := by decide +kernel
theorem d_Md_take_27 : decode b_Md_take 27 = .ok (.bipush 32, 2) := by decide +kernel
theorem d_Md_take_29 : decode b_Md_take 29 = .ok (.iand, 1) := by decide +kernel
theorem d_Md_take_30 : decode b_Md_take 30 = .ok (.iconst 1, 1) := by decide +kernel
theorem d_Md_take_31 : decode b_Md_take 31 = .ok (.ior, 1) := by decide +kernel
theorem d_Md_take_32 : decode b_Md_take 32 = .ok (.putfield 7, 3) := by decide +kernel
theorem d_Md_take_35 : decode b_Md_take 35 = .ok (.aload_n 0, 1) := by decide +kernel
theorem d_Md_take_36 : decode b_Md_take 36 = .ok (.dup, 1) := by decide +kernel
theorem d_Md_take_37 : decode b_Md_take 37 = .ok (.getfield 65, 3) := by decide +kernel
theorem d_Md_take_40 : decode b_Md_take 40 = .ok (.iconst 1, 1) := by decide +kernel
theorem d_Md_take_41 : decode b_Md_take 41 = .ok (.iadd, 1) := by decide +kernel
theorem d_Md_take_42 : decode b_Md_take 42 = .ok (.putfield 65, 3) := by decide +kernel
theorem d_Md_take_45 : decode b_Md_take 45 = .ok (.iload_n 1, 1) := by decide +kernel
theorem d_Md_take_46 : decode b_Md_take 46 = .ok (.ireturn, 1) := by decide +kernel
theorem d_Md_back_0 : decode b_Md_back 0 = .ok (.aload_n 0, 1) := by decide +kernel
theorem d_Md_back_1 : decode b_Md_back 1 = .ok (.iconst 0, 1) := by decide +kernel
theorem d_Md_back_2 : decode b_Md_back 2 = .ok (.putfield 20, 3) := by decide +kernel
theorem d_Md_back_5 : decode b_Md_back 5 = .ok (.aload_n 0, 1) := by decide +kernel
theorem d_Md_back_6 : decode b_Md_back 6 = .ok (.aload_n 0, 1) := by decide +kernel
theorem d_Md_back_7 : decode b_Md_back 7 = .ok (.getfield 62, 3) := by decide +kernel
theorem d_Md_back_10 : decode b_Md_back 10 = .ok (.putfield 7, 3) := by decide +kernel
theorem d_Md_back_13 : decode b_Md_back 13 = .ok (.return_, 1) := by decide +kernel
theorem d_Md_mode_0 : decode b_Md_mode 0 = .ok (.aload_n 0, 1) := by decide +kernel
theorem d_Md_mode_1 : decode b_Md_mode 1 = .ok (.iconst 0, 1) := by decide +kernel
theorem d_Md_mode_2 : decode b_Md_mode 2 = .ok (.putfield 20, 3) := by decide +kernel
theorem d_Md_mode_5 : decode b_Md_mode 5 = .ok (.aload_n 0, 1) := by decide +kernel
theorem d_Md_mode_6 : decode b_Md_mode 6 = .ok (.iload_n 1, 1) := by decide +kernel
theorem d_Md_mode_7 : decode b_Md_mode 7 = .ok (.bipush 39, 2) := by decide +kernel
theorem d_Md_mode_9 : decode b_Md_mode 9 = .ok (.iand, 1) := by decide +kernel
theorem d_Md_mode_10 : decode b_Md_mode 10 = .ok (.putfield 7, 3) := by decide +kernel
theorem d_Md_mode_13 : decode b_Md_mode 13 = .ok (.return_, 1) := by decide +kernel
theorem d_Md_mask_0 : decode b_Md_mask 0 = .ok (.aload_n 0, 1) := by decide +kernel
theorem d_Md_mask_1 : decode b_Md_mask 1 = .ok (.iconst 0, 1) := by decide +kernel
theorem d_Md_mask_2 : decode b_Md_mask 2 = .ok (.putfield 20, 3) := by decide +kernel
theorem d_Md_mask_5 : decode b_Md_mask 5 = .ok (.aload_n 0, 1) := by decide +kernel
theorem d_Md_mask_6 : decode b_Md_mask 6 = .ok (.iload_n 1, 1) := by decide +kernel
theorem d_Md_mask_7 : decode b_Md_mask 7 = .ok (.putfield 40, 3) := by decide +kernel
theorem d_Md_mask_10 : decode b_Md_mask 10 = .ok (.return_, 1) := by decide +kernel
theorem d_Md_timer_0 : decode b_Md_timer 0 = .ok (.aload_n 0, 1) := by decide +kernel
theorem d_Md_timer_1 : decode b_Md_timer 1 = .ok (.iconst 0, 1) := by decide +kernel
theorem d_Md_timer_2 : decode b_Md_timer 2 = .ok (.putfield 20, 3) := by decide +kernel
theorem d_Md_timer_5 : decode b_Md_timer 5 = .ok (.aload_n 0, 1) := by decide +kernel
theorem d_Md_timer_6 : decode b_Md_timer 6 = .ok (.iload_n 1, 1) := by decide +kernel
theorem d_Md_timer_7 : decode b_Md_timer 7 = .ok (.ldc 68, 2) := by decide +kernel
theorem d_Md_timer_9 : decode b_Md_timer 9 = .ok (.iand, 1) := by decide +kernel
theorem d_Md_timer_10 : decode b_Md_timer 10 = .ok (.putfield 52, 3) := by decide +kernel
theorem d_Md_timer_13 : decode b_Md_timer 13 = .ok (.aload_n 0, 1) := by decide +kernel
theorem d_Md_timer_14 : decode b_Md_timer 14 = .ok (.iload_n 2, 1) := by decide +kernel
theorem d_Md_timer_15 : decode b_Md_timer 15 = .ok (.putfield 46, 3) := by decide +kernel
theorem d_Md_timer_18 : decode b_Md_timer 18 = .ok (.aload_n 0, 1) := by decide +kernel
theorem d_Md_timer_19 : decode b_Md_timer 19 = .ok (.iload_n 3, 1) := by decide +kernel
theorem d_Md_timer_20 : decode b_Md_timer 20 = .ok (.putfield 32, 3) := by decide +kernel
theorem d_Md_timer_23 : decode b_Md_timer 23 = .ok (.return_, 1) := by decide +kernel
end
section
theorem d_Md_count_0 : decode b_Md_count 0 = .ok (.aload_n 0, 1) := by decide +kernel
theorem d_Md_count_1 : decode b_Md_count 1 = .ok (.iconst 0, 1) := by decide +kernel
theorem d_Md_count_2 : decode b_Md_count 2 = .ok (.putfield 20, 3) := by decide +kernel
theorem d_Md_count_5 : decode b_Md_count 5 = .ok (.aload_n 0, 1) := by decide +kernel
theorem d_Md_count_6 : decode b_Md_count 6 = .ok (.iload_n 1, 1) := by decide +kernel
theorem d_Md_count_7 : decode b_Md_count 7 = .ok (.putfield 49, 3) := by decide +kernel
theorem d_Md_count_10 : decode b_Md_count 10 = .ok (.return_, 1) := by decide +kernel
theorem d_Md_reset_0 : decode b_Md_reset 0 = .ok (.aload_n 0, 1) := by decide +kernel
theorem d_Md_reset_1 : decode b_Md_reset 1 = .ok (.iconst 0, 1) := by decide +kernel
theorem d_Md_reset_2 : decode b_Md_reset 2 = .ok (.putfield 20, 3) := by decide +kernel
theorem d_Md_reset_5 : decode b_Md_reset 5 = .ok (.aload_n 0, 1) := by decide +kernel
theorem d_Md_reset_6 : decode b_Md_reset 6 = .ok (.iconst 0, 1) := by decide +kernel
theorem d_Md_reset_7 : decode b_Md_reset 7 = .ok (.putfield 29, 3) := by decide +kernel
theorem d_Md_reset_10 : decode b_Md_reset 10 = .ok (.aload_n 0, 1) := by decide +kernel
theorem d_Md_reset_11 : decode b_Md_reset 11 = .ok (.iconst 0, 1) := by decide +kernel
theorem d_Md_reset_12 : decode b_Md_reset 12 = .ok (.putfield 49, 3) := by decide +kernel
theorem d_Md_reset_15 : decode b_Md_reset 15 = .ok (.aload_n 0, 1) := by decide +kernel
theorem d_Md_reset_16 : decode b_Md_reset 16 = .ok (.iconst 0, 1) := by decide +kernel
theorem d_Md_reset_17 : decode b_Md_reset 17 = .ok (.putfield 52, 3) := by decide +kernel
theorem d_Md_reset_20 : decode b_Md_reset 20 = .ok (.aload_n 0, 1) := by decide +kernel
theorem d_Md_reset_21 : decode b_Md_reset 21 = .ok (.iconst 0, 1) := by decide +kernel
theorem d_Md_reset_22 : decode b_Md_reset 22 = .ok (.putfield 46, 3) := by decide +kernel
theorem d_Md_reset_25 : decode b_Md_reset 25 = .ok (.aload_n 0, 1) := by decide +kernel
theorem d_Md_reset_26 : decode b_Md_reset 26 = .ok (.iconst 0, 1) := by decide +kernel
theorem d_Md_reset_27 : decode b_Md_reset 27 = .ok (.putfield 32, 3) := by decide +kernel
theorem d_Md_reset_30 : decode b_Md_reset 30 = .ok (.aload_n 0, 1) := by decide +kernel
theorem d_Md_reset_31 : decode b_Md_reset 31 = .ok (.iconst 0, 1) := by decide +kernel
theorem d_Md_reset_32 : decode b_Md_reset 32 = .ok (.putfield 40, 3) := by decide +kernel
theorem d_Md_reset_35 : decode b_Md_reset 35 = .ok (.aload_n 0, 1) := by decide +kernel
theorem d_Md_reset_36 : decode b_Md_reset 36 = .ok (.iconst 1, 1) := by decide +kernel
theorem d_Md_reset_37 : decode b_Md_reset 37 = .ok (.putfield 7, 3) := by decide +kernel
theorem d_Md_reset_40 : decode b_Md_reset 40 = .ok (.aload_n 0, 1) := by decide +kernel
theorem d_Md_reset_41 : decode b_Md_reset 41 = .ok (.iconst 0, 1) := by decide +kernel
theorem d_Md_reset_42 : decode b_Md_reset 42 = .ok (.putfield 62, 3) := by decide +kernel
theorem d_Md_reset_45 : decode b_Md_reset 45 = .ok (.aload_n 0, 1) := by decide +kernel
theorem d_Md_reset_46 : decode b_Md_reset 46 = .ok (.iconst 0, 1) := by decide +kernel
theorem d_Md_reset_47 : decode b_Md_reset 47 = .ok (.putfield 65, 3) := by decide +kernel
theorem d_Md_reset_50 : decode b_Md_reset 50 = .ok (.aload_n 0, 1) := by decide +kernel
theorem d_Md_reset_51 : decode b_Md_reset 51 = .ok (.iconst 0, 1) := by decide +kernel
theorem d_Md_reset_52 : decode b_Md_reset 52 = .ok (.putfield 26, 3) := by decide +kernel
theorem d_Md_reset_55 : decode b_Md_reset 55 = .ok (.aload_n 0, 1) := by decide +kernel
theorem d_Md_reset_56 : decode b_Md_reset 56 = .ok (.iconst 0, 1) := by decide +kernel
theorem d_Md_reset_57 : decode b_Md_reset 57 = .ok (.putfield 23, 3) := by decide +kernel
theorem d_Md_reset_60 : decode b_Md_reset 60 = .ok (.return_, 1) := by decide +kernel
theorem d_Md_until_0 : decode b_Md_until 0 = .ok (.aload_n 0, 1) := by decide +kernel
theorem d_Md_until_1 : decode b_Md_until 1 = .ok (.iconst 0, 1) := by decide +kernel
theorem d_Md_until_2 : decode b_Md_until 2 = .ok (.putfield 20, 3) := by decide +kernel
theorem d_Md_until_5 : decode b_Md_until 5 = .ok (.aload_n 0, 1) := by decide +kernel
theorem d_Md_until_6 : decode b_Md_until 6 = .ok (.invokevirtual 56, 3) := by decide +kernel
theorem d_Md_until_9 : decode b_Md_until 9 = .ok (.ifCond .le 5, 3) := by decide +kernel
theorem d_Md_until_12 : decode b_Md_until 12 = .ok (.iconst 0, 1) := by decide +kernel
theorem d_Md_until_13 : decode b_Md_until 13 = .ok (.ireturn, 1) := by decide +kernel
theorem d_Md_until_14 : decode b_Md_until 14 = .ok (.ldc2_w 69, 3) := by decide +kernel
theorem d_Md_until_17 : decode b_Md_until 17 = .ok (.lstore_n 1, 1) := by decide +kernel
theorem d_Md_until_18 : decode b_Md_until 18 = .ok (.aload_n 0, 1) := by decide +kernel
theorem d_Md_until_19 : decode b_Md_until 19 = .ok (.getfield 7, 3) := by decide +kernel
theorem d_Md_until_22 : decode b_Md_until 22 = .ok (.iconst 2, 1) := by decide +kernel
theorem d_Md_until_23 : decode b_Md_until 23 = .ok (.iand, 1) := by decide +kernel
theorem d_Md_until_24 : decode b_Md_until 24 = .ok (.ifCond .eq 38, 3) := by decide +kernel
theorem d_Md_until_27 : decode b_Md_until 27 = .ok (.aload_n 0, 1) := by decide +kernel
theorem d_Md_until_28 : decode b_Md_until 28 = .ok (.getfield 46, 3) := by decide +kernel
theorem d_Md_until_31 : decode b_Md_until 31 = .ok (.ifCond .eq 31, 3) := by decide +kernel
theorem d_Md_until_34 : decode b_Md_until 34 = .ok (.aload_n 0, 1) := by decide +kernel
theorem d_Md_until_35 : decode b_Md_until 35 = .ok (.getfield 52, 3) := by decide +kernel
theorem d_Md_until_38 : decode b_Md_until 38 = .ok (.i2l, 1) := by decide +kernel
theorem d_Md_until_39 : decode b_Md_until 39 = .ok (.aload_n 0, 1) := by decide +kernel
theorem d_Md_until_40 : decode b_Md_until 40 = .ok (.getfield 49, 3) := by decide +kernel
theorem d_Md_until_43 : decode b_Md_until 43 = .ok (.i2l, 1) := by decide +kernel
theorem d_Md_until_44 : decode b_Md_until 44 = .ok (.lsub, 1) := by decide +kernel
theorem d_Md_until_45 : decode b_Md_until 45 = .ok (.lstore_n 3, 1) := by decide +kernel
theorem d_Md_until_46 : decode b_Md_until 46 = .ok (.lload_n 3, 1) := by decide +kernel
theorem d_Md_until_47 : decode b_Md_until 47 = .ok (.lconst 0, 1) := by decide +kernel
theorem d_Md_until_48 : decode b_Md_until 48 = .ok (.lcmp, 1) := by decide +kernel
theorem d_Md_until_49 : decode b_Md_until 49 = .ok (.ifCond .le 7, 3) := by decide +kernel
theorem d_Md_until_52 : decode b_Md_until 52 = .ok (.lload_n 3, 1) := by decide +kernel
theorem d_Md_until_53 : decode b_Md_until 53 = .ok (.goto 8, 3) := by decide +kernel
theorem d_Md_until_56 : decode b_Md_until 56 = .ok (.lload_n 3, 1) := by decide +kernel
theorem d_Md_until_57 : decode b_Md_until 57 = .ok (.ldc2_w 71, 3) := by decide +kernel
theorem d_Md_until_60 : decode b_Md_until 60 = .ok (.ladd, 1) := by decide +kernel
theorem d_Md_until_61 : decode b_Md_until 61 = .ok (.lstore_n 1, 1) := by decide +kernel
theorem d_Md_until_62 : decode b_Md_until 62 = .ok (.aload_n 0, 1) := by decide +kernel
theorem d_Md_until_63 : decode b_Md_until 63 = .ok (.getfield 26, 3) := by decide +kernel
theorem d_Md_until_66 : decode b_Md_until 66 = .ok (.iconst 1, 1) := by decide +kernel
theorem d_Md_until_67 : decode b_Md_until 67 = .ok (.isub, 1) := by decide +kernel
theorem d_Md_until_68 : decode b_Md_until 68 = .ok (.istore_n 3, 1) := by decide +kernel
theorem d_Md_until_69 : decode b_Md_until 69 = .ok (.iload_n 3, 1) := by decide +kernel
theorem d_Md_until_70 : decode b_Md_until 70 = .ok (.aload_n 0, 1) := by decide +kernel
theorem d_Md_until_71 : decode b_Md_until 71 = .ok (.getfield 23, 3) := by decide +kernel
theorem d_Md_until_74 : decode b_Md_until 74 = .ok (.if_icmp .lt 61, 3) := by decide +kernel
theorem d_Md_until_77 : decode b_Md_until 77 = .ok (.aload_n 0, 1) := by decide +kernel
theorem d_Md_until_78 : decode b_Md_until 78 = .ok (.getfield 7, 3) := by decide +kernel
theorem d_Md_until_81 : decode b_Md_until 81 = .ok (.iconst 4, 1) := by decide +kernel
theorem d_Md_until_82 : decode b_Md_until 82 = .ok (.iand, 1) := by decide +kernel
theorem d_Md_until_83 : decode b_Md_until 83 = .ok (.ifCond .eq 52, 3) := by decide +kernel
theorem d_Md_until_86 : decode b_Md_until 86 = .ok (.aload_n 0, 1) := by decide +kernel
theorem d_Md_until_87 : decode b_Md_until 87 = .ok (.getfield 13, 3) := by decide +kernel
theorem d_Md_until_90 : decode b_Md_until 90 = .ok (.iload_n 3, 1) := by decide +kernel
theorem d_Md_until_91 : decode b_Md_until 91 = .ok (.iaload, 1) := by decide +kernel
theorem d_Md_until_92 : decode b_Md_until 92 = .ok (.i2l, 1) := by decide +kernel
theorem d_Md_until_93 : decode b_Md_until 93 = .ok (.aload_n 0, 1) := by decide +kernel
theorem d_Md_until_94 : decode b_Md_until 94 = .ok (.getfield 29, 3) := by decide +kernel
theorem d_Md_until_97 : decode b_Md_until 97 = .ok (.i2l, 1) := by decide +kernel
theorem d_Md_until_98 : decode b_Md_until 98 = .ok (.lsub, 1) := by decide +kernel
theorem d_Md_until_99 : decode b_Md_until 99 = .ok (.lstore 4, 2) := by decide +kernel
theorem d_Md_until_101 : decode b_Md_until 101 = .ok (.aload_n 0, 1) := by decide +kernel
theorem d_Md_until_102 : decode b_Md_until 102 = .ok (.getfield 17, 3) := by decide +kernel
theorem d_Md_until_105 : decode b_Md_until 105 = .ok (.iload_n 3, 1) := by decide +kernel
theorem d_Md_until_106 : decode b_Md_until 106 = .ok (.iaload, 1) := by decide +kernel
theorem d_Md_until_107 : decode b_Md_until 107 = .ok (.aload_n 0, 1) := by decide +kernel
theorem d_Md_until_108 : decode b_Md_until 108 = .ok (.getfield 40, 3) := by decide +kernel
theorem d_Md_until_111 : decode b_Md_until 111 = .ok (.iand, 1) := by decide +kernel
theorem d_Md_until_112 : decode b_Md_until 112 = .ok (.ifCond .eq 15, 3) := by decide +kernel
theorem d_Md_until_115 : decode b_Md_until 115 = .ok (.lload 4, 2) := by decide +kernel
theorem d_Md_until_117 : decode b_Md_until 117 = .ok (.lload_n 1, 1) := by decide +kernel
theorem d_Md_until_118 : decode b_Md_until 118 = .ok (.lcmp, 1) := by decide +kernel
theorem d_Md_until_119 : decode b_Md_until 119 = .ok (.ifCond .ge 8, 3) := by decide +kernel
theorem d_Md_until_122 : decode b_Md_until 122 = .ok (.lload 4, 2) := by decide +kernel
theorem d_Md_until_124 : decode b_Md_until 124 = .ok (.goto 4, 3) := by decide +kernel
theorem d_Md_until_127 : decode b_Md_until 127 = .ok (.lload_n 1, 1) := by decide +kernel
theorem d_Md_until_128 : decode b_Md_until 128 = .ok (.lstore_n 1, 1) := by decide +kernel
theorem d_Md_until_129 : decode b_Md_until 129 = .ok (.iinc 3 (-1), 3) := by decide +kernel
theorem d_Md_until_132 : decode b_Md_until 132 = .ok (.goto (-63), 3) := by decide +kernel
theorem d_Md_until_135 : decode b_Md_until 135 = .ok (.aload_n 0, 1) := by decide +kernel
theorem d_Md_until_136 : decode b_Md_until 136 = .ok (.getfield 29, 3) := by decide +kernel
theorem d_Md_until_139 : decode b_Md_until 139 = .ok (.i2l, 1) := by decide +kernel
theorem d_Md_until_140 : decode b_Md_until 140 = .ok (.lload_n 1, 1) := by decide +kernel
theorem d_Md_until_141 : decode b_Md_until 141 = .ok (.ladd, 1) := by decide +kernel
theorem d_Md_until_142 : decode b_Md_until 142 = .ok (.ldc2_w 73, 3) := by decide +kernel
theorem d_Md_until_145 : decode b_Md_until 145 = .ok (.lcmp, 1) := by decide +kernel
theorem d_Md_until_146 : decode b_Md_until 146 = .ok (.ifCond .le 7, 3) := by decide +kernel
theorem d_Md_until_149 : decode b_Md_until 149 = .ok (.iconst (-1), 1) := by decide +kernel
theorem d_Md_until_150 : decode b_Md_until 150 = .ok (.goto 5, 3) := by decide +kernel
theorem d_Md_until_153 : decode b_Md_until 153 = .ok (.lload_n 1, 1) := by decide +kernel
theorem d_Md_until_154 : decode b_Md_until 154 = .ok (.l2i, 1) := by decide +kernel
theorem d_Md_until_155 : decode b_Md_until 155 = .ok (.ireturn, 1) := by decide +kernel
theorem d_Md_linesAt_0 : decode b_Md_linesAt 0 = .ok (.aload_n 0, 1) := by decide +kernel
theorem d_Md_linesAt_1 : decode b_Md_linesAt 1 = .ok (.iconst 0, 1) := by decide +kernel
theorem d_Md_linesAt_2 : decode b_Md_linesAt 2 = .ok (.putfield 20, 3) := by decide +kernel
theorem d_Md_linesAt_5 : decode b_Md_linesAt 5 = .ok (.iconst 0, 1) := by decide +kernel
theorem d_Md_linesAt_6 : decode b_Md_linesAt 6 = .ok (.istore_n 2, 1) := by decide +kernel
theorem d_Md_linesAt_7 : decode b_Md_linesAt 7 = .ok (.iconst 0, 1) := by decide +kernel
theorem d_Md_linesAt_8 : decode b_Md_linesAt 8 = .ok (.istore_n 3, 1) := by decide +kernel
theorem d_Md_linesAt_9 : decode b_Md_linesAt 9 = .ok (.iload_n 3, 1) := by decide +kernel
theorem d_Md_linesAt_10 : decode b_Md_linesAt 10 = .ok (.aload_n 0, 1) := by decide +kernel
theorem d_Md_linesAt_11 : decode b_Md_linesAt 11 = .ok (.getfield 26, 3) := by decide +kernel
theorem d_Md_linesAt_14 : decode b_Md_linesAt 14 = .ok (.if_icmp .ge 30, 3) := by decide +kernel
theorem d_Md_linesAt_17 : decode b_Md_linesAt 17 = .ok (.aload_n 0, 1) := by decide +kernel
theorem d_Md_linesAt_18 : decode b_Md_linesAt 18 = .ok (.getfield 13, 3) := by decide +kernel
theorem d_Md_linesAt_21 : decode b_Md_linesAt 21 = .ok (.iload_n 3, 1) := by decide +kernel
theorem d_Md_linesAt_22 : decode b_Md_linesAt 22 = .ok (.iaload, 1) := by decide +kernel
theorem d_Md_linesAt_23 : decode b_Md_linesAt 23 = .ok (.iload_n 1, 1) := by decide +kernel
theorem d_Md_linesAt_24 : decode b_Md_linesAt 24 = .ok (.if_icmp .gt 12, 3) := by decide +kernel
theorem d_Md_linesAt_27 : decode b_Md_linesAt 27 = .ok (.aload_n 0, 1) := by decide +kernel
theorem d_Md_linesAt_28 : decode b_Md_linesAt 28 = .ok (.getfield 17, 3) := by decide +kernel
theorem d_Md_linesAt_31 : decode b_Md_linesAt 31 = .ok (.iload_n 3, 1) := by decide +kernel
theorem d_Md_linesAt_32 : decode b_Md_linesAt 32 = .ok (.iaload, 1) := by decide +kernel
theorem d_Md_linesAt_33 : decode b_Md_linesAt 33 = .ok (.goto 4, 3) := by decide +kernel
theorem d_Md_linesAt_36 : decode b_Md_linesAt 36 = .ok (.iload_n 2, 1) := by decide +kernel
theorem d_Md_linesAt_37 : decode b_Md_linesAt 37 = .ok (.istore_n 2, 1) := by decide +kernel
theorem d_Md_linesAt_38 : decode b_Md_linesAt 38 = .ok (.iinc 3 1, 3) := by decide +kernel
theorem d_Md_linesAt_41 : decode b_Md_linesAt 41 = .ok (.goto (-32), 3) := by decide +kernel
theorem d_Md_linesAt_44 : decode b_Md_linesAt 44 = .ok (.iload_n 1, 1) := by decide +kernel
theorem d_Md_linesAt_45 : decode b_Md_linesAt 45 = .ok (.ifCond .ge 7, 3) := by decide +kernel
theorem d_Md_linesAt_48 : decode b_Md_linesAt 48 = .ok (.iconst 0, 1) := by decide +kernel
theorem d_Md_linesAt_49 : decode b_Md_linesAt 49 = .ok (.goto 4, 3) := by decide +kernel
theorem d_Md_linesAt_52 : decode b_Md_linesAt 52 = .ok (.iload_n 2, 1) := by decide +kernel
theorem d_Md_linesAt_53 : decode b_Md_linesAt 53 = .ok (.ireturn, 1) := by decide +kernel
theorem d_Md_entryOf_0 : decode b_Md_entryOf 0 = .ok (.aload_n 0, 1) := by decide +kernel
theorem d_Md_entryOf_1 : decode b_Md_entryOf 1 = .ok (.iconst 0, 1) := by decide +kernel
theorem d_Md_entryOf_2 : decode b_Md_entryOf 2 = .ok (.putfield 20, 3) := by decide +kernel
theorem d_Md_entryOf_5 : decode b_Md_entryOf 5 = .ok (.iload_n 1, 1) := by decide +kernel
theorem d_Md_entryOf_6 : decode b_Md_entryOf 6 = .ok (.ifCond .lt 11, 3) := by decide +kernel
theorem d_Md_entryOf_9 : decode b_Md_entryOf 9 = .ok (.iload_n 1, 1) := by decide +kernel
theorem d_Md_entryOf_10 : decode b_Md_entryOf 10 = .ok (.aload_n 0, 1) := by decide +kernel
theorem d_Md_entryOf_11 : decode b_Md_entryOf 11 = .ok (.getfield 26, 3) := by decide +kernel
theorem d_Md_entryOf_14 : decode b_Md_entryOf 14 = .ok (.if_icmp .lt 7, 3) := by decide +kernel
theorem d_Md_entryOf_17 : decode b_Md_entryOf 17 = .ok (.iconst (-1), 1) := by decide +kernel
theorem d_Md_entryOf_18 : decode b_Md_entryOf 18 = .ok (.goto 22, 3) := by decide +kernel
theorem d_Md_entryOf_21 : decode b_Md_entryOf 21 = .ok (.iload_n 2, 1) := by decide +kernel
theorem d_Md_entryOf_22 : decode b_Md_entryOf 22 = .ok (.ifCond .eq 12, 3) := by decide +kernel
theorem d_Md_entryOf_25 : decode b_Md_entryOf 25 = .ok (.aload_n 0, 1) := by decide +kernel
theorem d_Md_entryOf_26 : decode b_Md_entryOf 26 = .ok (.getfield 17, 3) := by decide +kernel
theorem d_Md_entryOf_29 : decode b_Md_entryOf 29 = .ok (.iload_n 1, 1) := by decide +kernel
theorem d_Md_entryOf_30 : decode b_Md_entryOf 30 = .ok (.iaload, 1) := by decide +kernel
theorem d_Md_entryOf_31 : decode b_Md_entryOf 31 = .ok (.goto 9, 3) := by decide +kernel
theorem d_Md_entryOf_34 : decode b_Md_entryOf 34 = .ok (.aload_n 0, 1) := by decide +kernel
theorem d_Md_entryOf_35 : decode b_Md_entryOf 35 = .ok (.getfield 13, 3) := by decide +kernel
theorem d_Md_entryOf_38 : decode b_Md_entryOf 38 = .ok (.iload_n 1, 1) := by decide +kernel
theorem d_Md_entryOf_39 : decode b_Md_entryOf 39 = .ok (.iaload, 1) := by decide +kernel
theorem d_Md_entryOf_40 : decode b_Md_entryOf 40 = .ok (.ireturn, 1) := by decide +kernel
theorem d_Md_look_0 : decode b_Md_look 0 = .ok (.aload_n 0, 1) := by decide +kernel
theorem d_Md_look_1 : decode b_Md_look 1 = .ok (.iconst 0, 1) := by decide +kernel
theorem d_Md_look_2 : decode b_Md_look 2 = .ok (.putfield 20, 3) := by decide +kernel
theorem d_Md_look_5 : decode b_Md_look 5 = .ok (.iload_n 1, 1) := by decide +kernel
theorem d_Md_look_6 : decode b_Md_look 6 = .ok (.tableswitch 138 0 11 #[62, 67, 72, 77, 90, 103, 108, 113, 118, 123, 128, 133], 62) := by decide +kernel
theorem d_Md_look_68 : decode b_Md_look 68 = .ok (.aload_n 0, 1) := by decide +kernel
theorem d_Md_look_69 : decode b_Md_look 69 = .ok (.getfield 29, 3) := by decide +kernel
theorem d_Md_look_72 : decode b_Md_look 72 = .ok (.ireturn, 1) := by decide +kernel
theorem d_Md_look_73 : decode b_Md_look 73 = .ok (.aload_n 0, 1) := by decide +kernel
theorem d_Md_look_74 : decode b_Md_look 74 = .ok (.getfield 49, 3) := by decide +kernel
theorem d_Md_look_77 : decode b_Md_look 77 = .ok (.ireturn, 1) := by decide +kernel
theorem d_Md_look_78 : decode b_Md_look 78 = .ok (.aload_n 0, 1) := by decide +kernel
theorem d_Md_look_79 : decode b_Md_look 79 = .ok (.getfield 52, 3) := by decide +kernel
theorem d_Md_look_82 : decode b_Md_look 82 = .ok (.ireturn, 1) := by decide +kernel
theorem d_Md_look_83 : decode b_Md_look 83 = .ok (.aload_n 0, 1) := by decide +kernel
theorem d_Md_look_84 : decode b_Md_look 84 = .ok (.getfield 32, 3) := by decide +kernel
theorem d_Md_look_87 : decode b_Md_look 87 = .ok (.ifCond .eq 7, 3) := by decide +kernel
theorem d_Md_look_90 : decode b_Md_look 90 = .ok (.iconst 1, 1) := by decide +kernel
theorem d_Md_look_91 : decode b_Md_look 91 = .ok (.goto 4, 3) := by decide +kernel
theorem d_Md_look_94 : decode b_Md_look 94 = .ok (.iconst 0, 1) := by decide +kernel
theorem d_Md_look_95 : decode b_Md_look 95 = .ok (.ireturn, 1) := by decide +kernel
theorem d_Md_look_96 : decode b_Md_look 96 = .ok (.aload_n 0, 1) := by decide +kernel
theorem d_Md_look_97 : decode b_Md_look 97 = .ok (.getfield 46, 3) := by decide +kernel
theorem d_Md_look_100 : decode b_Md_look 100 = .ok (.ifCond .eq 7, 3) := by decide +kernel
theorem d_Md_look_103 : decode b_Md_look 103 = .ok (.iconst 1, 1) := by decide +kernel
theorem d_Md_look_104 : decode b_Md_look 104 = .ok (.goto 4, 3) := by decide +kernel
theorem d_Md_look_107 : decode b_Md_look 107 = .ok (.iconst 0, 1) := by decide +kernel
theorem d_Md_look_108 : decode b_Md_look 108 = .ok (.ireturn, 1) := by decide +kernel
theorem d_Md_look_109 : decode b_Md_look 109 = .ok (.aload_n 0, 1) := by decide +kernel
theorem d_Md_look_110 : decode b_Md_look 110 = .ok (.getfield 40, 3) := by decide +kernel
theorem d_Md_look_113 : decode b_Md_look 113 = .ok (.ireturn, 1) := by decide +kernel
theorem d_Md_look_114 : decode b_Md_look 114 = .ok (.aload_n 0, 1) := by decide +kernel
theorem d_Md_look_115 : decode b_Md_look 115 = .ok (.invokevirtual 36, 3) := by decide +kernel
theorem d_Md_look_118 : decode b_Md_look 118 = .ok (.ireturn, 1) := by decide +kernel
theorem d_Md_look_119 : decode b_Md_look 119 = .ok (.aload_n 0, 1) := by decide +kernel
theorem d_Md_look_120 : decode b_Md_look 120 = .ok (.getfield 7, 3) := by decide +kernel
theorem d_Md_look_123 : decode b_Md_look 123 = .ok (.ireturn, 1) := by decide +kernel
theorem d_Md_look_124 : decode b_Md_look 124 = .ok (.aload_n 0, 1) := by decide +kernel
theorem d_Md_look_125 : decode b_Md_look 125 = .ok (.getfield 62, 3) := by decide +kernel
theorem d_Md_look_128 : decode b_Md_look 128 = .ok (.ireturn, 1) := by decide +kernel
theorem d_Md_look_129 : decode b_Md_look 129 = .ok (.aload_n 0, 1) := by decide +kernel
theorem d_Md_look_130 : decode b_Md_look 130 = .ok (.getfield 65, 3) := by decide +kernel
theorem d_Md_look_133 : decode b_Md_look 133 = .ok (.ireturn, 1) := by decide +kernel
theorem d_Md_look_134 : decode b_Md_look 134 = .ok (.aload_n 0, 1) := by decide +kernel
theorem d_Md_look_135 : decode b_Md_look 135 = .ok (.getfield 26, 3) := by decide +kernel
theorem d_Md_look_138 : decode b_Md_look 138 = .ok (.ireturn, 1) := by decide +kernel
theorem d_Md_look_139 : decode b_Md_look 139 = .ok (.aload_n 0, 1) := by decide +kernel
theorem d_Md_look_140 : decode b_Md_look 140 = .ok (.invokevirtual 56, 3) := by decide +kernel
theorem d_Md_look_143 : decode b_Md_look 143 = .ok (.ireturn, 1) := by decide +kernel
theorem d_Md_look_144 : decode b_Md_look 144 = .ok (.iconst (-1), 1) := by decide +kernel
theorem d_Md_look_145 : decode b_Md_look 145 = .ok (.ireturn, 1) := by decide +kernel
end
section
theorem d_law_0 : decode code 0 = .ok (.new 7, 3) := by decide +kernel
theorem d_law_3 : decode code 3 = .ok (.dup, 1) := by decide +kernel
theorem d_law_4 : decode code 4 = .ok (.invokespecial 9, 3) := by decide +kernel
theorem d_law_7 : decode code 7 = .ok (.astore_n 1, 1) := by decide +kernel
theorem d_law_8 : decode code 8 = .ok (.new 10, 3) := by decide +kernel
theorem d_law_11 : decode code 11 = .ok (.dup, 1) := by decide +kernel
theorem d_law_12 : decode code 12 = .ok (.invokespecial 12, 3) := by decide +kernel
theorem d_law_15 : decode code 15 = .ok (.astore_n 2, 1) := by decide +kernel
theorem d_law_16 : decode code 16 = .ok (.iconst 0, 1) := by decide +kernel
theorem d_law_17 : decode code 17 = .ok (.istore_n 3, 1) := by decide +kernel
theorem d_law_18 : decode code 18 = .ok (.iload_n 3, 1) := by decide +kernel
theorem d_law_19 : decode code 19 = .ok (.aload_n 0, 1) := by decide +kernel
theorem d_law_20 : decode code 20 = .ok (.arraylength, 1) := by decide +kernel
theorem d_law_21 : decode code 21 = .ok (.iconst 4, 1) := by decide +kernel
theorem d_law_22 : decode code 22 = .ok (.isub, 1) := by decide +kernel
theorem d_law_23 : decode code 23 = .ok (.if_icmp .gt 418, 3) := by decide +kernel
theorem d_law_26 : decode code 26 = .ok (.aload_n 0, 1) := by decide +kernel
theorem d_law_27 : decode code 27 = .ok (.iload_n 3, 1) := by decide +kernel
theorem d_law_28 : decode code 28 = .ok (.iaload, 1) := by decide +kernel
theorem d_law_29 : decode code 29 = .ok (.bipush 15, 2) := by decide +kernel
theorem d_law_31 : decode code 31 = .ok (.iand, 1) := by decide +kernel
theorem d_law_32 : decode code 32 = .ok (.tableswitch 403 0 12 #[68, 101, 124, 137, 148, 169, 190, 263, 284, 295, 308, 331, 380], 68) := by decide +kernel
theorem d_law_100 : decode code 100 = .ok (.aload_n 1, 1) := by decide +kernel
theorem d_law_101 : decode code 101 = .ok (.aload_n 0, 1) := by decide +kernel
theorem d_law_102 : decode code 102 = .ok (.iload_n 3, 1) := by decide +kernel
theorem d_law_103 : decode code 103 = .ok (.iconst 1, 1) := by decide +kernel
theorem d_law_104 : decode code 104 = .ok (.iadd, 1) := by decide +kernel
theorem d_law_105 : decode code 105 = .ok (.iaload, 1) := by decide +kernel
theorem d_law_106 : decode code 106 = .ok (.aload_n 0, 1) := by decide +kernel
theorem d_law_107 : decode code 107 = .ok (.iload_n 3, 1) := by decide +kernel
theorem d_law_108 : decode code 108 = .ok (.iconst 2, 1) := by decide +kernel
theorem d_law_109 : decode code 109 = .ok (.iadd, 1) := by decide +kernel
theorem d_law_110 : decode code 110 = .ok (.iaload, 1) := by decide +kernel
theorem d_law_111 : decode code 111 = .ok (.invokevirtual 13, 3) := by decide +kernel
theorem d_law_114 : decode code 114 = .ok (.aload_n 2, 1) := by decide +kernel
theorem d_law_115 : decode code 115 = .ok (.aload_n 0, 1) := by decide +kernel
theorem d_law_116 : decode code 116 = .ok (.iload_n 3, 1) := by decide +kernel
theorem d_law_117 : decode code 117 = .ok (.iconst 1, 1) := by decide +kernel
theorem d_law_118 : decode code 118 = .ok (.iadd, 1) := by decide +kernel
theorem d_law_119 : decode code 119 = .ok (.iaload, 1) := by decide +kernel
theorem d_law_120 : decode code 120 = .ok (.aload_n 0, 1) := by decide +kernel
theorem d_law_121 : decode code 121 = .ok (.iload_n 3, 1) := by decide +kernel
theorem d_law_122 : decode code 122 = .ok (.iconst 2, 1) := by decide +kernel
theorem d_law_123 : decode code 123 = .ok (.iadd, 1) := by decide +kernel
theorem d_law_124 : decode code 124 = .ok (.iaload, 1) := by decide +kernel
theorem d_law_125 : decode code 125 = .ok (.invokevirtual 17, 3) := by decide +kernel
theorem d_law_128 : decode code 128 = .ok (.if_icmp .eq 307, 3) := by decide +kernel
theorem d_law_131 : decode code 131 = .ok (.iconst 0, 1) := by decide +kernel
theorem d_law_132 : decode code 132 = .ok (.ireturn, 1) := by decide +kernel
theorem d_law_133 : decode code 133 = .ok (.aload_n 1, 1) := by decide +kernel
theorem d_law_134 : decode code 134 = .ok (.aload_n 0, 1) := by decide +kernel
theorem d_law_135 : decode code 135 = .ok (.iload_n 3, 1) := by decide +kernel
theorem d_law_136 : decode code 136 = .ok (.iconst 1, 1) := by decide +kernel
theorem d_law_137 : decode code 137 = .ok (.iadd, 1) := by decide +kernel
theorem d_law_138 : decode code 138 = .ok (.iaload, 1) := by decide +kernel
theorem d_law_139 : decode code 139 = .ok (.invokevirtual 18, 3) := by decide +kernel
theorem d_law_142 : decode code 142 = .ok (.aload_n 2, 1) := by decide +kernel
theorem d_law_143 : decode code 143 = .ok (.aload_n 0, 1) := by decide +kernel
theorem d_law_144 : decode code 144 = .ok (.iload_n 3, 1) := by decide +kernel
theorem d_law_145 : decode code 145 = .ok (.iconst 1, 1) := by decide +kernel
theorem d_law_146 : decode code 146 = .ok (.iadd, 1) := by decide +kernel
theorem d_law_147 : decode code 147 = .ok (.iaload, 1) := by decide +kernel
theorem d_law_148 : decode code 148 = .ok (.invokevirtual 22, 3) := by decide +kernel
theorem d_law_151 : decode code 151 = .ok (.if_icmp .eq 284, 3) := by decide +kernel
theorem d_law_154 : decode code 154 = .ok (.iconst 0, 1) := by decide +kernel
theorem d_law_155 : decode code 155 = .ok (.ireturn, 1) := by decide +kernel
theorem d_law_156 : decode code 156 = .ok (.aload_n 1, 1) := by decide +kernel
theorem d_law_157 : decode code 157 = .ok (.invokevirtual 23, 3) := by decide +kernel
theorem d_law_160 : decode code 160 = .ok (.aload_n 2, 1) := by decide +kernel
theorem d_law_161 : decode code 161 = .ok (.invokevirtual 27, 3) := by decide +kernel
theorem d_law_164 : decode code 164 = .ok (.if_icmp .eq 271, 3) := by decide +kernel
theorem d_law_167 : decode code 167 = .ok (.iconst 0, 1) := by decide +kernel
theorem d_law_168 : decode code 168 = .ok (.ireturn, 1) := by decide +kernel
theorem d_law_169 : decode code 169 = .ok (.aload_n 1, 1) := by decide +kernel
theorem d_law_170 : decode code 170 = .ok (.invokevirtual 28, 3) := by decide +kernel
theorem d_law_173 : decode code 173 = .ok (.aload_n 2, 1) := by decide +kernel
theorem d_law_174 : decode code 174 = .ok (.invokevirtual 31, 3) := by decide +kernel
theorem d_law_177 : decode code 177 = .ok (.goto 258, 3) := by decide +kernel
theorem d_law_180 : decode code 180 = .ok (.aload_n 1, 1) := by decide +kernel
theorem d_law_181 : decode code 181 = .ok (.aload_n 0, 1) := by decide +kernel
theorem d_law_182 : decode code 182 = .ok (.iload_n 3, 1) := by decide +kernel
theorem d_law_183 : decode code 183 = .ok (.iconst 1, 1) := by decide +kernel
theorem d_law_184 : decode code 184 = .ok (.iadd, 1) := by decide +kernel
theorem d_law_185 : decode code 185 = .ok (.iaload, 1) := by decide +kernel
theorem d_law_186 : decode code 186 = .ok (.invokevirtual 32, 3) := by decide +kernel
theorem d_law_189 : decode code 189 = .ok (.aload_n 2, 1) := by decide +kernel
theorem d_law_190 : decode code 190 = .ok (.aload_n 0, 1) := by decide +kernel
theorem d_law_191 : decode code 191 = .ok (.iload_n 3, 1) := by decide +kernel
theorem d_law_192 : decode code 192 = .ok (.iconst 1, 1) := by decide +kernel
theorem d_law_193 : decode code 193 = .ok (.iadd, 1) := by decide +kernel
end
section
theorem d_law_194 : decode code 194 = .ok (.iaload, 1) := by decide +kernel
theorem d_law_195 : decode code 195 = .ok (.invokevirtual 36, 3) := by decide +kernel
theorem d_law_198 : decode code 198 = .ok (.goto 237, 3) := by decide +kernel
theorem d_law_201 : decode code 201 = .ok (.aload_n 1, 1) := by decide +kernel
theorem d_law_202 : decode code 202 = .ok (.aload_n 0, 1) := by decide +kernel
theorem d_law_203 : decode code 203 = .ok (.iload_n 3, 1) := by decide +kernel
theorem d_law_204 : decode code 204 = .ok (.iconst 1, 1) := by decide +kernel
theorem d_law_205 : decode code 205 = .ok (.iadd, 1) := by decide +kernel
theorem d_law_206 : decode code 206 = .ok (.iaload, 1) := by decide +kernel
theorem d_law_207 : decode code 207 = .ok (.invokevirtual 37, 3) := by decide +kernel
theorem d_law_210 : decode code 210 = .ok (.aload_n 2, 1) := by decide +kernel
theorem d_law_211 : decode code 211 = .ok (.aload_n 0, 1) := by decide +kernel
theorem d_law_212 : decode code 212 = .ok (.iload_n 3, 1) := by decide +kernel
theorem d_law_213 : decode code 213 = .ok (.iconst 1, 1) := by decide +kernel
theorem d_law_214 : decode code 214 = .ok (.iadd, 1) := by decide +kernel
theorem d_law_215 : decode code 215 = .ok (.iaload, 1) := by decide +kernel
theorem d_law_216 : decode code 216 = .ok (.invokevirtual 40, 3) := by decide +kernel
theorem d_law_219 : decode code 219 = .ok (.goto 216, 3) := by decide +kernel
theorem d_law_222 : decode code 222 = .ok (.aload_n 1, 1) := by decide +kernel
theorem d_law_223 : decode code 223 = .ok (.aload_n 0, 1) := by decide +kernel
theorem d_law_224 : decode code 224 = .ok (.iload_n 3, 1) := by decide +kernel
theorem d_law_225 : decode code 225 = .ok (.iconst 1, 1) := by decide +kernel
theorem d_law_226 : decode code 226 = .ok (.iadd, 1) := by decide +kernel
theorem d_law_227 : decode code 227 = .ok (.iaload, 1) := by decide +kernel
theorem d_law_228 : decode code 228 = .ok (.aload_n 0, 1) := by decide +kernel
theorem d_law_229 : decode code 229 = .ok (.iload_n 3, 1) := by decide +kernel
theorem d_law_230 : decode code 230 = .ok (.iconst 2, 1) := by decide +kernel
theorem d_law_231 : decode code 231 = .ok (.iadd, 1) := by decide +kernel
theorem d_law_232 : decode code 232 = .ok (.iaload, 1) := by decide +kernel
theorem d_law_233 : decode code 233 = .ok (.ifCond .eq 7, 3) := by decide +kernel
theorem d_law_236 : decode code 236 = .ok (.iconst 1, 1) := by decide +kernel
theorem d_law_237 : decode code 237 = .ok (.goto 4, 3) := by decide +kernel
theorem d_law_240 : decode code 240 = .ok (.iconst 0, 1) := by decide +kernel
theorem d_law_241 : decode code 241 = .ok (.aload_n 0, 1) := by decide +kernel
theorem d_law_242 : decode code 242 = .ok (.iload_n 3, 1) := by decide +kernel
theorem d_law_243 : decode code 243 = .ok (.iconst 3, 1) := by decide +kernel
theorem d_law_244 : decode code 244 = .ok (.iadd, 1) := by decide +kernel
theorem d_law_245 : decode code 245 = .ok (.iaload, 1) := by decide +kernel
theorem d_law_246 : decode code 246 = .ok (.ifCond .eq 7, 3) := by decide +kernel
theorem d_law_249 : decode code 249 = .ok (.iconst 1, 1) := by decide +kernel
theorem d_law_250 : decode code 250 = .ok (.goto 4, 3) := by decide +kernel
theorem d_law_253 : decode code 253 = .ok (.iconst 0, 1) := by decide +kernel
theorem d_law_254 : decode code 254 = .ok (.invokevirtual 41, 3) := by decide +kernel
theorem d_law_257 : decode code 257 = .ok (.aload_n 2, 1) := by decide +kernel
theorem d_law_258 : decode code 258 = .ok (.aload_n 0, 1) := by decide +kernel
theorem d_law_259 : decode code 259 = .ok (.iload_n 3, 1) := by decide +kernel
theorem d_law_260 : decode code 260 = .ok (.iconst 1, 1) := by decide +kernel
theorem d_law_261 : decode code 261 = .ok (.iadd, 1) := by decide +kernel
theorem d_law_262 : decode code 262 = .ok (.iaload, 1) := by decide +kernel
theorem d_law_263 : decode code 263 = .ok (.aload_n 0, 1) := by decide +kernel
theorem d_law_264 : decode code 264 = .ok (.iload_n 3, 1) := by decide +kernel
theorem d_law_265 : decode code 265 = .ok (.iconst 2, 1) := by decide +kernel
theorem d_law_266 : decode code 266 = .ok (.iadd, 1) := by decide +kernel
theorem d_law_267 : decode code 267 = .ok (.iaload, 1) := by decide +kernel
theorem d_law_268 : decode code 268 = .ok (.ifCond .eq 7, 3) := by decide +kernel
theorem d_law_271 : decode code 271 = .ok (.iconst 1, 1) := by decide +kernel
theorem d_law_272 : decode code 272 = .ok (.goto 4, 3) := by decide +kernel
theorem d_law_275 : decode code 275 = .ok (.iconst 0, 1) := by decide +kernel
theorem d_law_276 : decode code 276 = .ok (.aload_n 0, 1) := by decide +kernel
theorem d_law_277 : decode code 277 = .ok (.iload_n 3, 1) := by decide +kernel
theorem d_law_278 : decode code 278 = .ok (.iconst 3, 1) := by decide +kernel
theorem d_law_279 : decode code 279 = .ok (.iadd, 1) := by decide +kernel
theorem d_law_280 : decode code 280 = .ok (.iaload, 1) := by decide +kernel
theorem d_law_281 : decode code 281 = .ok (.ifCond .eq 7, 3) := by decide +kernel
theorem d_law_284 : decode code 284 = .ok (.iconst 1, 1) := by decide +kernel
theorem d_law_285 : decode code 285 = .ok (.goto 4, 3) := by decide +kernel
theorem d_law_288 : decode code 288 = .ok (.iconst 0, 1) := by decide +kernel
theorem d_law_289 : decode code 289 = .ok (.invokevirtual 45, 3) := by decide +kernel
theorem d_law_292 : decode code 292 = .ok (.goto 143, 3) := by decide +kernel
theorem d_law_295 : decode code 295 = .ok (.aload_n 1, 1) := by decide +kernel
theorem d_law_296 : decode code 296 = .ok (.aload_n 0, 1) := by decide +kernel
theorem d_law_297 : decode code 297 = .ok (.iload_n 3, 1) := by decide +kernel
theorem d_law_298 : decode code 298 = .ok (.iconst 1, 1) := by decide +kernel
theorem d_law_299 : decode code 299 = .ok (.iadd, 1) := by decide +kernel
theorem d_law_300 : decode code 300 = .ok (.iaload, 1) := by decide +kernel
theorem d_law_301 : decode code 301 = .ok (.invokevirtual 46, 3) := by decide +kernel
theorem d_law_304 : decode code 304 = .ok (.aload_n 2, 1) := by decide +kernel
theorem d_law_305 : decode code 305 = .ok (.aload_n 0, 1) := by decide +kernel
theorem d_law_306 : decode code 306 = .ok (.iload_n 3, 1) := by decide +kernel
theorem d_law_307 : decode code 307 = .ok (.iconst 1, 1) := by decide +kernel
theorem d_law_308 : decode code 308 = .ok (.iadd, 1) := by decide +kernel
theorem d_law_309 : decode code 309 = .ok (.iaload, 1) := by decide +kernel
theorem d_law_310 : decode code 310 = .ok (.invokevirtual 49, 3) := by decide +kernel
theorem d_law_313 : decode code 313 = .ok (.goto 122, 3) := by decide +kernel
theorem d_law_316 : decode code 316 = .ok (.aload_n 1, 1) := by decide +kernel
theorem d_law_317 : decode code 317 = .ok (.invokevirtual 50, 3) := by decide +kernel
theorem d_law_320 : decode code 320 = .ok (.aload_n 2, 1) := by decide +kernel
theorem d_law_321 : decode code 321 = .ok (.invokevirtual 53, 3) := by decide +kernel
theorem d_law_324 : decode code 324 = .ok (.goto 111, 3) := by decide +kernel
theorem d_law_327 : decode code 327 = .ok (.aload_n 1, 1) := by decide +kernel
end
section
theorem d_law_328 : decode code 328 = .ok (.invokevirtual 54, 3) := by decide +kernel
theorem d_law_331 : decode code 331 = .ok (.aload_n 2, 1) := by decide +kernel
theorem d_law_332 : decode code 332 = .ok (.invokevirtual 57, 3) := by decide +kernel
theorem d_law_335 : decode code 335 = .ok (.if_icmp .eq 100, 3) := by decide +kernel
theorem d_law_338 : decode code 338 = .ok (.iconst 0, 1) := by decide +kernel
theorem d_law_339 : decode code 339 = .ok (.ireturn, 1) := by decide +kernel
theorem d_law_340 : decode code 340 = .ok (.aload_n 1, 1) := by decide +kernel
theorem d_law_341 : decode code 341 = .ok (.aload_n 0, 1) := by decide +kernel
theorem d_law_342 : decode code 342 = .ok (.iload_n 3, 1) := by decide +kernel
theorem d_law_343 : decode code 343 = .ok (.iconst 1, 1) := by decide +kernel
theorem d_law_344 : decode code 344 = .ok (.iadd, 1) := by decide +kernel
theorem d_law_345 : decode code 345 = .ok (.iaload, 1) := by decide +kernel
theorem d_law_346 : decode code 346 = .ok (.invokevirtual 58, 3) := by decide +kernel
theorem d_law_349 : decode code 349 = .ok (.aload_n 2, 1) := by decide +kernel
theorem d_law_350 : decode code 350 = .ok (.aload_n 0, 1) := by decide +kernel
theorem d_law_351 : decode code 351 = .ok (.iload_n 3, 1) := by decide +kernel
theorem d_law_352 : decode code 352 = .ok (.iconst 1, 1) := by decide +kernel
theorem d_law_353 : decode code 353 = .ok (.iadd, 1) := by decide +kernel
theorem d_law_354 : decode code 354 = .ok (.iaload, 1) := by decide +kernel
theorem d_law_355 : decode code 355 = .ok (.invokevirtual 61, 3) := by decide +kernel
theorem d_law_358 : decode code 358 = .ok (.if_icmp .eq 77, 3) := by decide +kernel
theorem d_law_361 : decode code 361 = .ok (.iconst 0, 1) := by decide +kernel
theorem d_law_362 : decode code 362 = .ok (.ireturn, 1) := by decide +kernel
theorem d_law_363 : decode code 363 = .ok (.aload_n 1, 1) := by decide +kernel
theorem d_law_364 : decode code 364 = .ok (.aload_n 0, 1) := by decide +kernel
theorem d_law_365 : decode code 365 = .ok (.iload_n 3, 1) := by decide +kernel
theorem d_law_366 : decode code 366 = .ok (.iconst 1, 1) := by decide +kernel
theorem d_law_367 : decode code 367 = .ok (.iadd, 1) := by decide +kernel
theorem d_law_368 : decode code 368 = .ok (.iaload, 1) := by decide +kernel
theorem d_law_369 : decode code 369 = .ok (.aload_n 0, 1) := by decide +kernel
theorem d_law_370 : decode code 370 = .ok (.iload_n 3, 1) := by decide +kernel
theorem d_law_371 : decode code 371 = .ok (.iconst 2, 1) := by decide +kernel
theorem d_law_372 : decode code 372 = .ok (.iadd, 1) := by decide +kernel
theorem d_law_373 : decode code 373 = .ok (.iaload, 1) := by decide +kernel
theorem d_law_374 : decode code 374 = .ok (.ifCond .eq 7, 3) := by decide +kernel
theorem d_law_377 : decode code 377 = .ok (.iconst 1, 1) := by decide +kernel
theorem d_law_378 : decode code 378 = .ok (.goto 4, 3) := by decide +kernel
theorem d_law_381 : decode code 381 = .ok (.iconst 0, 1) := by decide +kernel
theorem d_law_382 : decode code 382 = .ok (.invokevirtual 62, 3) := by decide +kernel
theorem d_law_385 : decode code 385 = .ok (.aload_n 2, 1) := by decide +kernel
theorem d_law_386 : decode code 386 = .ok (.aload_n 0, 1) := by decide +kernel
theorem d_law_387 : decode code 387 = .ok (.iload_n 3, 1) := by decide +kernel
theorem d_law_388 : decode code 388 = .ok (.iconst 1, 1) := by decide +kernel
theorem d_law_389 : decode code 389 = .ok (.iadd, 1) := by decide +kernel
theorem d_law_390 : decode code 390 = .ok (.iaload, 1) := by decide +kernel
theorem d_law_391 : decode code 391 = .ok (.aload_n 0, 1) := by decide +kernel
theorem d_law_392 : decode code 392 = .ok (.iload_n 3, 1) := by decide +kernel
theorem d_law_393 : decode code 393 = .ok (.iconst 2, 1) := by decide +kernel
theorem d_law_394 : decode code 394 = .ok (.iadd, 1) := by decide +kernel
theorem d_law_395 : decode code 395 = .ok (.iaload, 1) := by decide +kernel
theorem d_law_396 : decode code 396 = .ok (.ifCond .eq 7, 3) := by decide +kernel
theorem d_law_399 : decode code 399 = .ok (.iconst 1, 1) := by decide +kernel
theorem d_law_400 : decode code 400 = .ok (.goto 4, 3) := by decide +kernel
theorem d_law_403 : decode code 403 = .ok (.iconst 0, 1) := by decide +kernel
theorem d_law_404 : decode code 404 = .ok (.invokevirtual 66, 3) := by decide +kernel
theorem d_law_407 : decode code 407 = .ok (.if_icmp .eq 28, 3) := by decide +kernel
theorem d_law_410 : decode code 410 = .ok (.iconst 0, 1) := by decide +kernel
theorem d_law_411 : decode code 411 = .ok (.ireturn, 1) := by decide +kernel
theorem d_law_412 : decode code 412 = .ok (.aload_n 1, 1) := by decide +kernel
theorem d_law_413 : decode code 413 = .ok (.aload_n 0, 1) := by decide +kernel
theorem d_law_414 : decode code 414 = .ok (.iload_n 3, 1) := by decide +kernel
theorem d_law_415 : decode code 415 = .ok (.iconst 1, 1) := by decide +kernel
theorem d_law_416 : decode code 416 = .ok (.iadd, 1) := by decide +kernel
theorem d_law_417 : decode code 417 = .ok (.iaload, 1) := by decide +kernel
theorem d_law_418 : decode code 418 = .ok (.invokevirtual 67, 3) := by decide +kernel
theorem d_law_421 : decode code 421 = .ok (.aload_n 2, 1) := by decide +kernel
theorem d_law_422 : decode code 422 = .ok (.aload_n 0, 1) := by decide +kernel
theorem d_law_423 : decode code 423 = .ok (.iload_n 3, 1) := by decide +kernel
theorem d_law_424 : decode code 424 = .ok (.iconst 1, 1) := by decide +kernel
theorem d_law_425 : decode code 425 = .ok (.iadd, 1) := by decide +kernel
theorem d_law_426 : decode code 426 = .ok (.iaload, 1) := by decide +kernel
theorem d_law_427 : decode code 427 = .ok (.invokevirtual 70, 3) := by decide +kernel
theorem d_law_430 : decode code 430 = .ok (.if_icmp .eq 5, 3) := by decide +kernel
theorem d_law_433 : decode code 433 = .ok (.iconst 0, 1) := by decide +kernel
theorem d_law_434 : decode code 434 = .ok (.ireturn, 1) := by decide +kernel
theorem d_law_435 : decode code 435 = .ok (.iinc 3 4, 3) := by decide +kernel
theorem d_law_438 : decode code 438 = .ok (.goto (-420), 3) := by decide +kernel
theorem d_law_441 : decode code 441 = .ok (.iconst 1, 1) := by decide +kernel
theorem d_law_442 : decode code 442 = .ok (.ireturn, 1) := by decide +kernel
end
section
/-! the plain picture: what the methods compute, in plain functions -/
/-- the lines that are on when c entries have come -/
def rt_lv (g : Nat → Int32) (c : Nat) : Int32 := if c = 0 then 0 else g (c - 1)
/-- c of the n entries have come at x -/
def rt_cut (f : Nat → Int32) (n : Nat) (x : Int32) (c : Nat) : Prop := c ≤ n ∧ (∀ k, k < c → f k ≤ x) ∧ ∀ k, c ≤ k → k < n → x < f k
/-- k is the first entry from c on that has a line of the mask, or n -/
def rt_nx (g : Nat → Int32) (mk : Int32) (n c k : Nat) : Prop := c ≤ k ∧ k ≤ n ∧ (∀ j, c ≤ j → j < k → g j &&& mk = 0) ∧ (k < n → ¬ g k &&& mk = 0)
def rt_so (f : Nat → Int32) (n : Nat) : Prop := ∀ j k, j < k → k < n → f j < f k
def rt_NEVER : Int64 := 9223372036854775807
def rt_wy (pd ct : Int32) : Int64 := if (pd - ct).toInt64 &&& 4294967295 = 0 then 4294967296 else (pd - ct).toInt64 &&& 4294967295
def rt_tu (pd ct cg pn : Int32) : Int64 := if pn = 0 then (if cg = 0 then 9223372036854775807 else rt_wy pd ct) else 0
def rt_lc (pd ct cg : Int32) (st : Int64) : Int32 := if cg = 0 then ct else if rt_wy pd ct ≤ st then (if pd = 0 then (st - rt_wy pd ct).toInt32 else ((st - rt_wy pd ct) - (st - rt_wy pd ct) / pd.toInt64 * pd.toInt64).toInt32) else ct + st.toInt32
def rt_lp (pd ct cg pn : Int32) (st : Int64) : Int32 := if cg = 0 then pn else if rt_wy pd ct ≤ st then 1 else pn
def rt_ok (f : Nat → Int32) (n : Nat) (a : Int32) : Bool := decide (¬ a < 0 ∧ ¬ n = 32 ∧ (n = 0 ∨ f (n - 1) < a))
def rt_er (f : Nat → Int32) (n : Nat) (a : Int32) : Int32 := if rt_ok f n a = true then 1 else 0
def rt_en (f : Nat → Int32) (n : Nat) (a : Int32) : Nat := if rt_ok f n a = true then n + 1 else n
def rt_ef (f : Nat → Int32) (n : Nat) (a : Int32) : Nat → Int32 := if rt_ok f n a = true then upd f n a else f
def rt_eg (f g : Nat → Int32) (n : Nat) (a b : Int32) : Nat → Int32 := if rt_ok f n a = true then upd g n b else g
def rt_ru (x mk : Int32) (n : Nat) (f g : Nat → Int32) (c k : Nat) : Int64 := if rt_lv g c &&& mk = 0 then (if k < n then (f k - x).toInt64 else 9223372036854775807) else 0
def rt_is (sr b : Int32) : Int32 := if sr &&& b = 0 then 0 else 1
def rt_wt (sr pd ct cg pn : Int32) : Int64 := if sr &&& 2 = 0 then 9223372036854775807 else rt_tu pd ct cg pn
def rt_wl (sr rt mk : Int32) (n : Nat) (f g : Nat → Int32) (c k : Nat) : Int64 := if sr &&& 4 = 0 then 9223372036854775807 else rt_ru rt mk n f g c k
def rt_mn (a b : Int64) : Int64 := if b < a then b else a
def rt_w (sr pd ct cg pn rt mk : Int32) (n : Nat) (f g : Nat → Int32) (c k : Nat) : Int64 := rt_mn (rt_wt sr pd ct cg pn) (rt_wl sr rt mk n f g c k)
/-- what is due -/
def rt_dm (sr pn mk lv : Int32) : Int32 := if ¬ sr &&& 2 = 0 ∧ ¬ pn = 0 then 5 else if ¬ sr &&& 4 = 0 ∧ ¬ lv &&& mk = 0 then 8 else 0
def rt_bad (rt a : Int32) : Bool := decide (a < 1 ∨ 20000 < a ∨ ¬ rt.toInt64 + a.toInt64 ≤ 2147483647)
def rt_cn (a : Int32) (w : Int64) : Int32 := (rt_mn a.toInt64 w).toInt32
def rt_s0 (rt a : Int32) (w : Int64) : Int32 := if rt_bad rt a = true then -1 else rt_cn a w
def rt_s1 (rt a : Int32) (w : Int64) : Int32 := if rt_bad rt a = true then rt else rt + rt_cn a w
def rt_s2 (rt a pd ct cg : Int32) (w : Int64) : Int32 := if rt_bad rt a = true then ct else rt_lc pd ct cg (rt_cn a w).toInt64
def rt_s3 (rt a pd ct cg pn : Int32) (w : Int64) : Int32 := if rt_bad rt a = true then pn else rt_lp pd ct cg pn (rt_cn a w).toInt64
def rt_ts (d sr : Int32) : Int32 := if d ≤ 0 then sr else sr &&& 32 ||| 1
def rt_tv (d sr sv : Int32) : Int32 := if d ≤ 0 then sv else sr
def rt_tt (d tk : Int32) : Int32 := if d ≤ 0 then tk else tk + 1
def rt_un (rt : Int32) (w : Int64) : Int32 := if w ≤ 2147483647 - rt.toInt64 then w.toInt32 else -1
def rt_la (a lv : Int32) : Int32 := if 0 ≤ a then lv else 0
def rt_eo (a b : Int32) (n : Nat) (f g : Nat → Int32) : Int32 := if a < 0 then -1 else if a < nI n then (if b = 0 then f a.toNatClampNeg else g a.toNatClampNeg) else -1
def rt_b1 (x : Int32) : Int32 := if x = 0 then 0 else 1
def rt_lk (w rt ct pd pn cg mk lv sr sv tk : Int32) (n : Nat) (d : Int32) : Int32 :=
  if w = 0 then rt else if w = 1 then ct else if w = 2 then pd else if w = 3 then rt_b1 pn else if w = 4 then rt_b1 cg else if w = 5 then mk else if w = 6 then lv else if w = 7 then sr else if w = 8 then sv else if w = 9 then tk else if w = 10 then nI n else if w = 11 then d else -1
/-- what holds between two calls -/
def rt_I (rt pd cg pn : Int32) (n : Nat) (f : Nat → Int32) (c : Nat) : Prop := 0 ≤ rt ∧ (0 ≤ pd ∧ pd < 268435456) ∧ (cg = 0 ∨ cg = 1) ∧ (pn = 0 ∨ pn = 1) ∧ n ≤ 32 ∧ rt_so f n ∧ rt_cut f n rt c
-- small rows
theorem rt_n32 {n : Nat} (h : n ≤ 32) : nI n = 32 ↔ n = 32 := by
  rw [show (32 : Int32) = nI 32 from rfl]
  exact nI_eq (by omega) (by decide)
theorem rt_n0 {n : Nat} (h : n ≤ 32) : nI n ≤ 0 ↔ n = 0 := by
  rw [show (0 : Int32) = nI 0 from rfl, nI_leI (by omega) (by decide)]
  omega
theorem rt_n0e {n : Nat} (h : n ≤ 32) : nI n = 0 ↔ n = 0 := by
  rw [show (0 : Int32) = nI 0 from rfl]
  exact nI_eq (by omega) (by decide)
theorem rt_pm {n : Nat} (h : ¬ n = 0) : nI n - 1 = nI (n - 1) := by
  obtain ⟨k, rfl⟩ : ∃ k, n = k + 1 := ⟨n - 1, by omega⟩
  exact nI_pred k
theorem rt_is0 {sr b : Int32} : rt_is sr b = 0 ↔ sr &&& b = 0 := by
  unfold rt_is
  by_cases h : sr &&& b = 0 <;> simp [h]
theorem rt_isn (sr b : Int32) : narrow .boolean (.int (rt_is sr b)) = .int (rt_is sr b) := by
  unfold rt_is
  by_cases h : sr &&& b = 0
  · rw [if_pos h]; rfl
  · rw [if_neg h]; rfl
theorem rt_ern (f : Nat → Int32) (n : Nat) (a : Int32) : narrow .boolean (.int (rt_er f n a)) = .int (rt_er f n a) := by
  unfold rt_er
  by_cases h : rt_ok f n a = true
  · rw [if_pos h]; rfl
  · rw [if_neg h]; rfl
theorem rt_bn {b : Int32} (h : b = 0 ∨ b = 1) : narrow .boolean (.int b) = .int b := by
  rcases h with rfl | rfl <;> rfl
theorem rt_bf {b : Int32} (h : b = 0 ∨ b = 1) : fits .boolean (.int b) = true := by
  rcases h with rfl | rfl <;> rfl
theorem rt_l0 {x : Int32} (h : ¬ x = 0) : ¬ x.toInt64 = 0 := by
  intro q
  apply h
  have h1 := congrArg Int64.toInt q
  rw [Int32.toInt_toInt64] at h1
  exact Int32.toInt_inj.mp h1
section RtPure
variable {p : Program} {l : Launch} {e : Env} {R : Room} {s : State} {m : MethodId} {args : Array Value} {below : List Frame} {meth : Method} {c : Code} {H : Heap} {locs : List Loc} {cells slots : Nat} {Q : State → Prop}
variable {cc : ByteArray} {pc : Nat} {ls : Array Slot} {rest : List Value} {D : va_G} {cl : List vw_C} {A : Nat → Prop} {a : Nat} {tys : List (ClassId × FieldType)} {ws : va_W} {H0 : Heap}
/-- another word for the number on top -/
theorem rt_topi {x : Int32} (y : Int32) (h : x = y) (k : W p l e R s m args below meth c H locs cells slots Q (F0 m pc ls (.int y :: rest))) : W p l e R s m args below meth c H locs cells slots Q (F0 m pc ls (.int x :: rest)) := h ▸ k
theorem rt_topl {x : Int64} (y : Int64) (h : x = y) (k : W p l e R s m args below meth c H locs cells slots Q (F0 m pc ls (.long y :: rest))) : W p l e R s m args below meth c H locs cells slots Q (F0 m pc ls (.long x :: rest)) := h ▸ k
/-- an int array of 32 places, read and written at a plain number -/
theorem rt_iald (hexec : p.tables.exec = Jvm.exec) (hb : c.code = cc) (hK : va_K D cl tys s) (hP : va_P D cl ws H) (q0 t0 : Nat) {cA : ClassId} {n : Nat} {f : Nat → Int32} (ha : ws[q0]? = some (a, .inl (cA, n, .inl f))) (ht : tys[t0]? = some (cA, .int)) {i : Int32} (k : Nat) (hi : i = nI k) (hk : k < n) (hn : n < 2 ^ 31) (hdg : decode cc pc = .ok (.iaload, 1))
    (kk : W p l e R s m args below meth c H locs cells slots Q (F0 m (pc + 1) ls (.int (f k) :: rest))) : W p l e R s m args below meth c H locs cells slots Q (F0 m pc ls (.int i :: .ref a :: rest)) := by
  subst hi
  refine va_iald hexec hb hK hP q0 t0 ha ht (vp_in_nI hk hn) hdg ?_
  rw [nI_clamp (by omega)]
  exact kk
theorem rt_iast (hexec : p.tables.exec = Jvm.exec) (hb : c.code = cc) (hK : va_K D cl tys s) (hP : va_P D cl ws H) (hD : va_D A ws) (hS : va_S A H0 H locs) (q0 t0 : Nat) {cA : ClassId} {n : Nat} {f : Nat → Int32} (ha : ws[q0]? = some (a, .inl (cA, n, .inl f))) (ht : tys[t0]? = some (cA, .int)) {i : Int32} {x : Int32} (k : Nat) (hi : i = nI k) (hk : k < n) (hn : n < 2 ^ 31) (hdg : decode cc pc = .ok (.iastore, 1))
    (kk : ∀ (H1 : Heap) (locs1 : List Loc), va_P D cl (ws.set q0 (a, .inl (cA, n, .inl (upd f k x)))) H1 → va_D A (ws.set q0 (a, .inl (cA, n, .inl (upd f k x)))) → va_S A H0 H1 locs1 → W p l e R s m args below meth c H1 locs1 cells slots Q (F0 m (pc + 1) ls rest)) : W p l e R s m args below meth c H locs cells slots Q (F0 m pc ls (.int x :: .int i :: .ref a :: rest)) := by
  subst hi
  refine va_iast hexec hb hK hP hD hS q0 t0 ha ht (vp_in_nI hk hn) hdg ?_
  rw [nI_clamp (by omega)]
  exact kk
end RtPure
end
section
section RtRows2
variable {p : Program} {l : Launch} {e : Env} {R : Room} {s : State} {m : MethodId} {args : Array Value} {below : List Frame} {meth : Method} {c : Code} {H : Heap} {locs : List Loc} {cells slots : Nat} {Q : State → Prop}
variable {dC : Nat → ClassId} {dI : Nat → Nat → Nat} {A A0 : Nat → Prop} {cc : ByteArray} {pc : Nat} {ls : Array Slot} {rest st : List Value} {H0 : Heap}
/-- a call of a static method -/
theorem rt_runS {own : String} {n nL mc ms maxL index : Nat} {y : MethodName} {bytes : ByteArray} {ret : Option FieldType} {rm : Room} {As : List Value} {tys tysc : List (ClassId × FieldType)} {ws wc : va_W} {Qc : Array Value → State → Outcome → State → Prop} {free : Addr → Prop}
    (S : CallFix p m c cc nL s args lw_rest own) (hM : Met l y (.code y bytes maxL ret :: lw_rest) rm (va_Pc As (rt_B dC dI tysc wc H.size)) Qc mc ms free) (hG : GoodIn lw_rest (va_wsS own index y (.code y bytes maxL ret :: lw_rest))) (hd : y.cls ≠ "java/lang/invoke/MethodHandle" ∧ y.cls ≠ "java/lang/invoke/VarHandle" ∧ (parseMethodDescriptor y.desc).map (fun d => d.parameters.length) = some n) (hR : rm.frames + 1 ≤ R.frames ∧ 8 + (maxL + 11) + rm.locals ≤ R.locals ∧ rm.cells = mc ∧ rm.slots = ms)
    (hP : va_P (dC, dI) classes ws H) (hK : va_K (dC, dI) classes tys s) (hD : va_D A0 ws) (hN : rt_N s) (isC isT : List Nat) (hnd : va_nd isC = true) (hC : isC.map (fun i => ws[i]?) = wc.map some) (hT : isT.filterMap (fun i => tys[i]?) = tysc) (hn : As.length = n) (hsize : ls.size = nL) (hstack : st = As.reverse ++ rest) (hW : (rest.map fun v => v.category).sum ≤ 8) (hdg : decode cc pc = .ok (.invokestatic index, 3)) (hf : cells + mc ≤ R.cells ∧ slots + ms ≤ R.slots) :
    va_Run p l e R s m args below meth c H locs cells slots mc ms (F0 m pc ls st) rest (Qc As.toArray) free :=
  va_runS S hM (va_cwS n S.2.2.2.2 hG rfl hR.2.2.1 hR.2.2.2 hd ⟨hR.1, hR.2.1⟩) (rt_preS (hP.sub isC (rt_fm hC)) (hK.sub isT hT) (hD.sub isC hnd hC) hN) rfl hn hsize hstack (lv_room hW) hdg hf
/-- a constructor's call: the plain one, and that of a nest mate -/
theorem rt_runI {own : String} {b n nL mc ms maxL index : Nat} {y : MethodName} {bytes : ByteArray} {rm : Room} {As : List Value} {tys tysc : List (ClassId × FieldType)} {ws wc : va_W} {Qc : Array Value → State → Outcome → State → Prop} {free : Addr → Prop}
    (S : CallFix p m c cc nL s args lw_rest own) (hM : Met l y (.code y bytes maxL none :: lw_rest) rm (va_Pc (.ref b :: As) (rt_B dC dI tysc wc H.size)) Qc mc ms free) (hcy : Cond.code y bytes maxL none ∈ lw_rest) (hini : Cond.initialized y.cls ∈ lw_rest) (hl : Cond.methodLink own index y ∈ lw_rest) (hin : Cond.instanceMethod y ∈ lw_rest) (hy1 : y.name = "<init>") (hd : y.cls ≠ "java/lang/invoke/MethodHandle" ∧ y.cls ≠ "java/lang/invoke/VarHandle" ∧ (parseMethodDescriptor y.desc).map (fun d => d.parameters.length) = some n) (hR : rm.frames + 1 ≤ R.frames ∧ 8 + (maxL + 11) + rm.locals ≤ R.locals ∧ rm.cells = mc ∧ rm.slots = ms)
    (hP : va_P (dC, dI) classes ws H) (hK : va_K (dC, dI) classes tys s) (hD : va_D A0 ws) (hN : rt_N s) (isC isT : List Nat) (hnd : va_nd isC = true) (hC : isC.map (fun i => ws[i]?) = wc.map some) (hT : isT.filterMap (fun i => tys[i]?) = tysc) (hn : As.length = n) (hsize : ls.size = nL) (hstack : st = As.reverse ++ .ref b :: rest) (hW : (rest.map fun v => v.category).sum ≤ 8) (hdg : decode cc pc = .ok (.invokespecial index, 3)) (hf : cells + mc ≤ R.cells ∧ slots + ms ≤ R.slots) :
    va_Run p l e R s m args below meth c H locs cells slots mc ms (F0 m pc ls st) rest (Qc (Value.ref b :: As).toArray) free :=
  va_runI S hM (cwI n S.2.2.2.2 (rt_gI hcy) rfl hR.2.2.1 hR.2.2.2 (S.2.2.2.2 _ hini) (S.2.2.2.2 _ hl) (S.2.2.2.2 _ hin) hy1 hd ⟨hR.1, hR.2.1⟩) (rt_preS (hP.sub isC (rt_fm hC)) (hK.sub isT hT) (hD.sub isC hnd hC) hN) rfl hn hsize hstack (lv_room hW) hdg hf
theorem rt_runIN {own host : String} {b n nL mc ms maxL index : Nat} {y : MethodName} {bytes : ByteArray} {rm : Room} {As : List Value} {tys tysc : List (ClassId × FieldType)} {ws wc : va_W} {Qc : Array Value → State → Outcome → State → Prop} {free : Addr → Prop}
    (S : CallFix p m c cc nL s args lw_rest own) (hM : Met l y (.code y bytes maxL none :: lw_rest) rm (va_Pc (.ref b :: As) (rt_B dC dI tysc wc H.size)) Qc mc ms free) (hcy : Cond.code y bytes maxL none ∈ lw_rest) (hini : Cond.initialized y.cls ∈ lw_rest) (hl : va_Nw (.methodLinkNest own index y host) s) (hin : Cond.instanceMethod y ∈ lw_rest) (hy1 : y.name = "<init>") (hd : y.cls ≠ "java/lang/invoke/MethodHandle" ∧ y.cls ≠ "java/lang/invoke/VarHandle" ∧ (parseMethodDescriptor y.desc).map (fun d => d.parameters.length) = some n) (hR : rm.frames + 1 ≤ R.frames ∧ 8 + (maxL + 11) + rm.locals ≤ R.locals ∧ rm.cells = mc ∧ rm.slots = ms)
    (hP : va_P (dC, dI) classes ws H) (hK : va_K (dC, dI) classes tys s) (hD : va_D A0 ws) (hN : rt_N s) (isC isT : List Nat) (hnd : va_nd isC = true) (hC : isC.map (fun i => ws[i]?) = wc.map some) (hT : isT.filterMap (fun i => tys[i]?) = tysc) (hn : As.length = n) (hsize : ls.size = nL) (hstack : st = As.reverse ++ .ref b :: rest) (hW : (rest.map fun v => v.category).sum ≤ 8) (hdg : decode cc pc = .ok (.invokespecial index, 3)) (hf : cells + mc ≤ R.cells ∧ slots + ms ≤ R.slots) :
    va_Run p l e R s m args below meth c H locs cells slots mc ms (F0 m pc ls st) rest (Qc (Value.ref b :: As).toArray) free :=
  va_runIN S hM ⟨va_cnB n S.2.2.2.2 (rt_gI hcy) rfl hR.2.2.1 hR.2.2.2 hl (S.2.2.2.2 _ hini) hd ⟨hR.1, hR.2.1⟩, hy1, S.2.2.2.2 _ hin⟩ (rt_preS (hP.sub isC (rt_fm hC)) (hK.sub isT hT) (hD.sub isC hnd hC) hN) rfl hn hsize hstack (lv_room hW) hdg hf
end RtRows2
end
section
theorem hd_Rt_init : y_Rt_init.cls = R_Rt ∧ y_Rt_init.cls ≠ "java/lang/invoke/MethodHandle" ∧ y_Rt_init.cls ≠ "java/lang/invoke/VarHandle" ∧ (parseMethodDescriptor y_Rt_init.desc).map (fun d => d.parameters.length) = some 0 := by decide +kernel
theorem hd_Tm_init : y_Tm_init.cls = R_Tm ∧ y_Tm_init.cls ≠ "java/lang/invoke/MethodHandle" ∧ y_Tm_init.cls ≠ "java/lang/invoke/VarHandle" ∧ (parseMethodDescriptor y_Tm_init.desc).map (fun d => d.parameters.length) = some 0 := by decide +kernel
theorem hd_Rw_init : y_Rw_init.cls = R_Rw ∧ y_Rw_init.cls ≠ "java/lang/invoke/MethodHandle" ∧ y_Rw_init.cls ≠ "java/lang/invoke/VarHandle" ∧ (parseMethodDescriptor y_Rw_init.desc).map (fun d => d.parameters.length) = some 0 := by decide +kernel
theorem hd_Rt_reset : y_Rt_reset.cls = R_Rt ∧ y_Rt_reset.cls ≠ "java/lang/invoke/MethodHandle" ∧ y_Rt_reset.cls ≠ "java/lang/invoke/VarHandle" ∧ (parseMethodDescriptor y_Rt_reset.desc).map (fun d => d.parameters.length) = some 0 := by decide +kernel
theorem hd_Tm_reset : y_Tm_reset.cls = R_Tm ∧ y_Tm_reset.cls ≠ "java/lang/invoke/MethodHandle" ∧ y_Tm_reset.cls ≠ "java/lang/invoke/VarHandle" ∧ (parseMethodDescriptor y_Tm_reset.desc).map (fun d => d.parameters.length) = some 0 := by decide +kernel
theorem hd_Rt_entry : y_Rt_entry.cls = R_Rt ∧ y_Rt_entry.cls ≠ "java/lang/invoke/MethodHandle" ∧ y_Rt_entry.cls ≠ "java/lang/invoke/VarHandle" ∧ (parseMethodDescriptor y_Rt_entry.desc).map (fun d => d.parameters.length) = some 2 := by decide +kernel
theorem hd_Rw_add : y_Rw_add.cls = R_Rw ∧ y_Rw_add.cls ≠ "java/lang/invoke/MethodHandle" ∧ y_Rw_add.cls ≠ "java/lang/invoke/VarHandle" ∧ (parseMethodDescriptor y_Rw_add.desc).map (fun d => d.parameters.length) = some 2 := by decide +kernel
theorem hd_Rt_steps : y_Rt_steps.cls = R_Rt ∧ y_Rt_steps.cls ≠ "java/lang/invoke/MethodHandle" ∧ y_Rt_steps.cls ≠ "java/lang/invoke/VarHandle" ∧ (parseMethodDescriptor y_Rt_steps.desc).map (fun d => d.parameters.length) = some 1 := by decide +kernel
theorem hd_Rt_untilTimer : y_Rt_untilTimer.cls = R_Rt ∧ y_Rt_untilTimer.cls ≠ "java/lang/invoke/MethodHandle" ∧ y_Rt_untilTimer.cls ≠ "java/lang/invoke/VarHandle" ∧ (parseMethodDescriptor y_Rt_untilTimer.desc).map (fun d => d.parameters.length) = some 0 := by decide +kernel
theorem hd_Rt_is : y_Rt_is.cls = R_Rt ∧ y_Rt_is.cls ≠ "java/lang/invoke/MethodHandle" ∧ y_Rt_is.cls ≠ "java/lang/invoke/VarHandle" ∧ (parseMethodDescriptor y_Rt_is.desc).map (fun d => d.parameters.length) = some 1 := by decide +kernel
theorem hd_Tm_until : y_Tm_until.cls = R_Tm ∧ y_Tm_until.cls ≠ "java/lang/invoke/MethodHandle" ∧ y_Tm_until.cls ≠ "java/lang/invoke/VarHandle" ∧ (parseMethodDescriptor y_Tm_until.desc).map (fun d => d.parameters.length) = some 0 := by decide +kernel
theorem hd_Tm_way : y_Tm_way.cls = R_Tm ∧ y_Tm_way.cls ≠ "java/lang/invoke/MethodHandle" ∧ y_Tm_way.cls ≠ "java/lang/invoke/VarHandle" ∧ (parseMethodDescriptor y_Tm_way.desc).map (fun d => d.parameters.length) = some 0 := by decide +kernel
theorem hd_Rt_untilLines : y_Rt_untilLines.cls = R_Rt ∧ y_Rt_untilLines.cls ≠ "java/lang/invoke/MethodHandle" ∧ y_Rt_untilLines.cls ≠ "java/lang/invoke/VarHandle" ∧ (parseMethodDescriptor y_Rt_untilLines.desc).map (fun d => d.parameters.length) = some 0 := by decide +kernel
theorem hd_Rw_until : y_Rw_until.cls = R_Rw ∧ y_Rw_until.cls ≠ "java/lang/invoke/MethodHandle" ∧ y_Rw_until.cls ≠ "java/lang/invoke/VarHandle" ∧ (parseMethodDescriptor y_Rw_until.desc).map (fun d => d.parameters.length) = some 2 := by decide +kernel
theorem hd_Rw_at : y_Rw_at.cls = R_Rw ∧ y_Rw_at.cls ≠ "java/lang/invoke/MethodHandle" ∧ y_Rw_at.cls ≠ "java/lang/invoke/VarHandle" ∧ (parseMethodDescriptor y_Rw_at.desc).map (fun d => d.parameters.length) = some 1 := by decide +kernel
theorem hd_Tm_leap : y_Tm_leap.cls = R_Tm ∧ y_Tm_leap.cls ≠ "java/lang/invoke/MethodHandle" ∧ y_Tm_leap.cls ≠ "java/lang/invoke/VarHandle" ∧ (parseMethodDescriptor y_Tm_leap.desc).map (fun d => d.parameters.length) = some 1 := by decide +kernel
theorem hd_Rt_take : y_Rt_take.cls = R_Rt ∧ y_Rt_take.cls ≠ "java/lang/invoke/MethodHandle" ∧ y_Rt_take.cls ≠ "java/lang/invoke/VarHandle" ∧ (parseMethodDescriptor y_Rt_take.desc).map (fun d => d.parameters.length) = some 0 := by decide +kernel
theorem hd_Rt_due : y_Rt_due.cls = R_Rt ∧ y_Rt_due.cls ≠ "java/lang/invoke/MethodHandle" ∧ y_Rt_due.cls ≠ "java/lang/invoke/VarHandle" ∧ (parseMethodDescriptor y_Rt_due.desc).map (fun d => d.parameters.length) = some 0 := by decide +kernel
theorem hd_Rt_back : y_Rt_back.cls = R_Rt ∧ y_Rt_back.cls ≠ "java/lang/invoke/MethodHandle" ∧ y_Rt_back.cls ≠ "java/lang/invoke/VarHandle" ∧ (parseMethodDescriptor y_Rt_back.desc).map (fun d => d.parameters.length) = some 0 := by decide +kernel
theorem hd_Rt_mode : y_Rt_mode.cls = R_Rt ∧ y_Rt_mode.cls ≠ "java/lang/invoke/MethodHandle" ∧ y_Rt_mode.cls ≠ "java/lang/invoke/VarHandle" ∧ (parseMethodDescriptor y_Rt_mode.desc).map (fun d => d.parameters.length) = some 1 := by decide +kernel
theorem hd_Rt_mask : y_Rt_mask.cls = R_Rt ∧ y_Rt_mask.cls ≠ "java/lang/invoke/MethodHandle" ∧ y_Rt_mask.cls ≠ "java/lang/invoke/VarHandle" ∧ (parseMethodDescriptor y_Rt_mask.desc).map (fun d => d.parameters.length) = some 1 := by decide +kernel
theorem hd_Rt_timer : y_Rt_timer.cls = R_Rt ∧ y_Rt_timer.cls ≠ "java/lang/invoke/MethodHandle" ∧ y_Rt_timer.cls ≠ "java/lang/invoke/VarHandle" ∧ (parseMethodDescriptor y_Rt_timer.desc).map (fun d => d.parameters.length) = some 3 := by decide +kernel
theorem hd_Rt_count : y_Rt_count.cls = R_Rt ∧ y_Rt_count.cls ≠ "java/lang/invoke/MethodHandle" ∧ y_Rt_count.cls ≠ "java/lang/invoke/VarHandle" ∧ (parseMethodDescriptor y_Rt_count.desc).map (fun d => d.parameters.length) = some 1 := by decide +kernel
theorem hd_Rt_until : y_Rt_until.cls = R_Rt ∧ y_Rt_until.cls ≠ "java/lang/invoke/MethodHandle" ∧ y_Rt_until.cls ≠ "java/lang/invoke/VarHandle" ∧ (parseMethodDescriptor y_Rt_until.desc).map (fun d => d.parameters.length) = some 0 := by decide +kernel
theorem hd_Rt_linesAt : y_Rt_linesAt.cls = R_Rt ∧ y_Rt_linesAt.cls ≠ "java/lang/invoke/MethodHandle" ∧ y_Rt_linesAt.cls ≠ "java/lang/invoke/VarHandle" ∧ (parseMethodDescriptor y_Rt_linesAt.desc).map (fun d => d.parameters.length) = some 1 := by decide +kernel
theorem hd_Rt_entryOf : y_Rt_entryOf.cls = R_Rt ∧ y_Rt_entryOf.cls ≠ "java/lang/invoke/MethodHandle" ∧ y_Rt_entryOf.cls ≠ "java/lang/invoke/VarHandle" ∧ (parseMethodDescriptor y_Rt_entryOf.desc).map (fun d => d.parameters.length) = some 2 := by decide +kernel
theorem hd_Rt_look : y_Rt_look.cls = R_Rt ∧ y_Rt_look.cls ≠ "java/lang/invoke/MethodHandle" ∧ y_Rt_look.cls ≠ "java/lang/invoke/VarHandle" ∧ (parseMethodDescriptor y_Rt_look.desc).map (fun d => d.parameters.length) = some 1 := by decide +kernel
theorem hd_Md_init : y_Md_init.cls = R_Md ∧ y_Md_init.cls ≠ "java/lang/invoke/MethodHandle" ∧ y_Md_init.cls ≠ "java/lang/invoke/VarHandle" ∧ (parseMethodDescriptor y_Md_init.desc).map (fun d => d.parameters.length) = some 0 := by decide +kernel
theorem hd_Md_entry : y_Md_entry.cls = R_Md ∧ y_Md_entry.cls ≠ "java/lang/invoke/MethodHandle" ∧ y_Md_entry.cls ≠ "java/lang/invoke/VarHandle" ∧ (parseMethodDescriptor y_Md_entry.desc).map (fun d => d.parameters.length) = some 2 := by decide +kernel
theorem hd_Md_goOn : y_Md_goOn.cls = R_Md ∧ y_Md_goOn.cls ≠ "java/lang/invoke/MethodHandle" ∧ y_Md_goOn.cls ≠ "java/lang/invoke/VarHandle" ∧ (parseMethodDescriptor y_Md_goOn.desc).map (fun d => d.parameters.length) = some 0 := by decide +kernel
theorem hd_Md_steps : y_Md_steps.cls = R_Md ∧ y_Md_steps.cls ≠ "java/lang/invoke/MethodHandle" ∧ y_Md_steps.cls ≠ "java/lang/invoke/VarHandle" ∧ (parseMethodDescriptor y_Md_steps.desc).map (fun d => d.parameters.length) = some 1 := by decide +kernel
theorem hd_Md_due : y_Md_due.cls = R_Md ∧ y_Md_due.cls ≠ "java/lang/invoke/MethodHandle" ∧ y_Md_due.cls ≠ "java/lang/invoke/VarHandle" ∧ (parseMethodDescriptor y_Md_due.desc).map (fun d => d.parameters.length) = some 0 := by decide +kernel
theorem hd_Md_linesNow : y_Md_linesNow.cls = R_Md ∧ y_Md_linesNow.cls ≠ "java/lang/invoke/MethodHandle" ∧ y_Md_linesNow.cls ≠ "java/lang/invoke/VarHandle" ∧ (parseMethodDescriptor y_Md_linesNow.desc).map (fun d => d.parameters.length) = some 0 := by decide +kernel
theorem hd_Md_step : y_Md_step.cls = R_Md ∧ y_Md_step.cls ≠ "java/lang/invoke/MethodHandle" ∧ y_Md_step.cls ≠ "java/lang/invoke/VarHandle" ∧ (parseMethodDescriptor y_Md_step.desc).map (fun d => d.parameters.length) = some 0 := by decide +kernel
theorem hd_Md_take : y_Md_take.cls = R_Md ∧ y_Md_take.cls ≠ "java/lang/invoke/MethodHandle" ∧ y_Md_take.cls ≠ "java/lang/invoke/VarHandle" ∧ (parseMethodDescriptor y_Md_take.desc).map (fun d => d.parameters.length) = some 0 := by decide +kernel
theorem hd_Md_back : y_Md_back.cls = R_Md ∧ y_Md_back.cls ≠ "java/lang/invoke/MethodHandle" ∧ y_Md_back.cls ≠ "java/lang/invoke/VarHandle" ∧ (parseMethodDescriptor y_Md_back.desc).map (fun d => d.parameters.length) = some 0 := by decide +kernel
theorem hd_Md_mode : y_Md_mode.cls = R_Md ∧ y_Md_mode.cls ≠ "java/lang/invoke/MethodHandle" ∧ y_Md_mode.cls ≠ "java/lang/invoke/VarHandle" ∧ (parseMethodDescriptor y_Md_mode.desc).map (fun d => d.parameters.length) = some 1 := by decide +kernel
theorem hd_Md_mask : y_Md_mask.cls = R_Md ∧ y_Md_mask.cls ≠ "java/lang/invoke/MethodHandle" ∧ y_Md_mask.cls ≠ "java/lang/invoke/VarHandle" ∧ (parseMethodDescriptor y_Md_mask.desc).map (fun d => d.parameters.length) = some 1 := by decide +kernel
theorem hd_Md_timer : y_Md_timer.cls = R_Md ∧ y_Md_timer.cls ≠ "java/lang/invoke/MethodHandle" ∧ y_Md_timer.cls ≠ "java/lang/invoke/VarHandle" ∧ (parseMethodDescriptor y_Md_timer.desc).map (fun d => d.parameters.length) = some 3 := by decide +kernel
theorem hd_Md_count : y_Md_count.cls = R_Md ∧ y_Md_count.cls ≠ "java/lang/invoke/MethodHandle" ∧ y_Md_count.cls ≠ "java/lang/invoke/VarHandle" ∧ (parseMethodDescriptor y_Md_count.desc).map (fun d => d.parameters.length) = some 1 := by decide +kernel
theorem hd_Md_reset : y_Md_reset.cls = R_Md ∧ y_Md_reset.cls ≠ "java/lang/invoke/MethodHandle" ∧ y_Md_reset.cls ≠ "java/lang/invoke/VarHandle" ∧ (parseMethodDescriptor y_Md_reset.desc).map (fun d => d.parameters.length) = some 0 := by decide +kernel
theorem hd_Md_until : y_Md_until.cls = R_Md ∧ y_Md_until.cls ≠ "java/lang/invoke/MethodHandle" ∧ y_Md_until.cls ≠ "java/lang/invoke/VarHandle" ∧ (parseMethodDescriptor y_Md_until.desc).map (fun d => d.parameters.length) = some 0 := by decide +kernel
theorem hd_Md_linesAt : y_Md_linesAt.cls = R_Md ∧ y_Md_linesAt.cls ≠ "java/lang/invoke/MethodHandle" ∧ y_Md_linesAt.cls ≠ "java/lang/invoke/VarHandle" ∧ (parseMethodDescriptor y_Md_linesAt.desc).map (fun d => d.parameters.length) = some 1 := by decide +kernel
theorem hd_Md_entryOf : y_Md_entryOf.cls = R_Md ∧ y_Md_entryOf.cls ≠ "java/lang/invoke/MethodHandle" ∧ y_Md_entryOf.cls ≠ "java/lang/invoke/VarHandle" ∧ (parseMethodDescriptor y_Md_entryOf.desc).map (fun d => d.parameters.length) = some 2 := by decide +kernel
theorem hd_Md_look : y_Md_look.cls = R_Md ∧ y_Md_look.cls ≠ "java/lang/invoke/MethodHandle" ∧ y_Md_look.cls ≠ "java/lang/invoke/VarHandle" ∧ (parseMethodDescriptor y_Md_look.desc).map (fun d => d.parameters.length) = some 1 := by decide +kernel
theorem rt_nlt {a b : Int32} : ¬ a < b ↔ b ≤ a := by
  rw [Int32.lt_iff_toInt_lt, Int32.le_iff_toInt_le]
  omega
set_option maxHeartbeats 4000000 in
set_option maxRecDepth 100000 in
theorem c_Tm_reset (l : Launch) (dC : Nat → ClassId) (dI : Nat → Nat → Nat) (h0 : Nat) (sz : Nat) (pd ct cg pn : Int32) :
    rt_Cv l y_Tm_reset b_Tm_reset 1 none ({ frames := 0, cells := 0, slots := 0, locals := 0 } : Room) dC dI [] [(h0, .inr (0, [.int pd, .int ct, .int cg, .int pn]))] sz [.ref h0] (fun (u : Int32 × Int32 × Int32 × Int32) => u.1 = 0 ∧ u.2.1 = 0 ∧ u.2.2.1 = 0 ∧ u.2.2.2 = 0) (fun _ => []) (fun u => [(h0, .inr (0, [.int u.1, .int u.2.1, .int u.2.2.1, .int u.2.2.2]))]) 0 0 := by
  refine rt_metv (by decide) (Nat.le_of_ble_eq_true rfl) ?_
  intro p e s m below meth c_ A ls hx hb hr hml hown hts hlocks hin hP hK hD hN hA hS hl
  have hown : s.vm.findClass R_Tm = some m.cls := hown
  have hl : lv_has ls 1 [(0, .ref h0)] := hl
  refine lv_aload_n hx hb d_Tm_reset_0 rfl (lv_at hl 0 rfl) ?_
  refine lv_iconst (v := 0) hx hb d_Tm_reset_1 (by decide) ?_
  refine va_put (D := (dC, dI)) (ci := 0) (v := .int 0) (ty := .int) (C := R_Tm) (T := F_Tm) (N := 4) hx hb hts i_Tm t_Tm t_Tm_ok n_Tm hown hK hP hD hS 0 rfl rfl 0 (by decide) (hts _ m_29) (fun _ h9 => h9) rfl (by decide +kernel) rfl rfl (Nat.le_of_ble_eq_true rfl) d_Tm_reset_2 (fun H locs hP hD hS => ?_)
  have hP : va_P (dC, dI) classes [(h0, .inr (0, [.int 0, .int ct, .int cg, .int pn]))] H := hP
  have hD : va_D A [(h0, .inr (0, [.int 0, .int ct, .int cg, .int pn]))] := hD
  refine lv_aload_n hx hb d_Tm_reset_5 rfl (lv_at hl 0 rfl) ?_
  refine lv_iconst (v := 0) hx hb d_Tm_reset_6 (by decide) ?_
  refine va_put (D := (dC, dI)) (ci := 0) (v := .int 0) (ty := .int) (C := R_Tm) (T := F_Tm) (N := 4) hx hb hts i_Tm t_Tm t_Tm_ok n_Tm hown hK hP hD hS 0 rfl rfl 1 (by decide) (hts _ m_31) (fun _ h9 => h9) rfl (by decide +kernel) rfl rfl (Nat.le_of_ble_eq_true rfl) d_Tm_reset_7 (fun H locs hP hD hS => ?_)
  have hP : va_P (dC, dI) classes [(h0, .inr (0, [.int 0, .int 0, .int cg, .int pn]))] H := hP
  have hD : va_D A [(h0, .inr (0, [.int 0, .int 0, .int cg, .int pn]))] := hD
  refine lv_aload_n hx hb d_Tm_reset_10 rfl (lv_at hl 0 rfl) ?_
  refine lv_iconst (v := 0) hx hb d_Tm_reset_11 (by decide) ?_
  refine va_put (D := (dC, dI)) (ci := 0) (v := .int 0) (ty := .boolean) (C := R_Tm) (T := F_Tm) (N := 4) hx hb hts i_Tm t_Tm t_Tm_ok n_Tm hown hK hP hD hS 0 rfl rfl 2 (by decide) (hts _ m_33) (fun _ h9 => h9) rfl (by decide +kernel) rfl rfl (Nat.le_of_ble_eq_true rfl) d_Tm_reset_12 (fun H locs hP hD hS => ?_)
  have hP : va_P (dC, dI) classes [(h0, .inr (0, [.int 0, .int 0, .int 0, .int pn]))] H := hP
  have hD : va_D A [(h0, .inr (0, [.int 0, .int 0, .int 0, .int pn]))] := hD
  refine lv_aload_n hx hb d_Tm_reset_15 rfl (lv_at hl 0 rfl) ?_
  refine lv_iconst (v := 0) hx hb d_Tm_reset_16 (by decide) ?_
  refine va_put (D := (dC, dI)) (ci := 0) (v := .int 0) (ty := .boolean) (C := R_Tm) (T := F_Tm) (N := 4) hx hb hts i_Tm t_Tm t_Tm_ok n_Tm hown hK hP hD hS 0 rfl rfl 3 (by decide) (hts _ m_35) (fun _ h9 => h9) rfl (by decide +kernel) rfl rfl (Nat.le_of_ble_eq_true rfl) d_Tm_reset_17 (fun H locs hP hD hS => ?_)
  have hP : va_P (dC, dI) classes [(h0, .inr (0, [.int 0, .int 0, .int 0, .int 0]))] H := hP
  have hD : va_D A [(h0, .inr (0, [.int 0, .int 0, .int 0, .int 0]))] := hD
  refine rt_vret hx hb hr hlocks (0, 0, 0, 0) ?_ hP hK hD hS d_Tm_reset_20
  exact ⟨rfl, rfl, rfl, rfl⟩
set_option maxHeartbeats 4000000 in
set_option maxRecDepth 100000 in
theorem c_Tm_way (l : Launch) (dC : Nat → ClassId) (dI : Nat → Nat → Nat) (h0 : Nat) (sz : Nat) (pd ct cg pn : Int32) :
    rt_Cl l y_Tm_way b_Tm_way 3 (some .long) ({ frames := 0, cells := 0, slots := 0, locals := 0 } : Room) dC dI [] [(h0, .inr (0, [.int pd, .int ct, .int cg, .int pn]))] sz [.ref h0] (fun (r : Int64) (u : Unit) => r = rt_wy pd ct) (fun _ => []) (fun u => [(h0, .inr (0, [.int pd, .int ct, .int cg, .int pn]))]) 0 0 := by
  refine rt_metl (by decide) (Nat.le_of_ble_eq_true rfl) ?_
  intro p e s m below meth c_ A ls hx hb hr hml hown hts hlocks hin hP hK hD hN hA hS hl
  have hown : s.vm.findClass R_Tm = some m.cls := hown
  have hl : lv_has ls 3 [(0, .ref h0)] := hl
  refine lv_aload_n hx hb d_Tm_way_0 rfl (lv_at hl 0 rfl) ?_
  refine va_get (D := (dC, dI)) (ci := 0) (v := .int pd) (C := R_Tm) (T := F_Tm) (N := 4) hx hb hts i_Tm hown hK hP 0 rfl rfl 0 (by decide) (hts _ m_29) (fun _ h9 => h9) rfl d_Tm_way_1 ?_
  refine lv_aload_n hx hb d_Tm_way_4 rfl (lv_at hl 0 rfl) ?_
  refine va_get (D := (dC, dI)) (ci := 0) (v := .int ct) (C := R_Tm) (T := F_Tm) (N := 4) hx hb hts i_Tm hown hK hP 0 rfl rfl 1 (by decide) (hts _ m_31) (fun _ h9 => h9) rfl d_Tm_way_5 ?_
  refine lv_isub hx hb d_Tm_way_8 ?_
  refine lv_i2l (v := (pd - ct).toInt64) hx hb d_Tm_way_9 rfl ?_
  refine lv_ldc2 hx hb hown (hts _ m_126) d_Tm_way_10 ?_
  refine lv_land hx hb d_Tm_way_13 ?_
  refine lv_lstore_n (lv' := [(1, .long (((pd - ct).toInt64) &&& 4294967295)), (0, .ref h0)]) hx hb d_Tm_way_14 rfl hl (by decide) rfl (fun ls hl => ?_)
  refine lv_lload_n hx hb d_Tm_way_15 rfl (lv_at hl 0 rfl) ?_
  refine lv_lconst (v := 0) hx hb d_Tm_way_16 (by decide) ?_
  refine W.lcmp hx hb d_Tm_way_17 ?_
  refine lv_if_ne (tgt := 27) hx hb d_Tm_way_18 (by decide) (fun c_18 => ?_) (fun c_18 => ?_)
  · rw [lg_cmp_eq] at c_18
    refine lv_lload_n hx hb d_Tm_way_27 rfl (lv_at hl 0 rfl) ?_
    refine rt_lret hx hb hr hlocks () ?_ hP hK hD hS d_Tm_way_28
    try dsimp only
    exact by simp only [rt_wy, if_neg c_18, eq_self, and_self]
  · rw [lg_cmp_eq] at c_18
    refine lv_ldc2 hx hb hown (hts _ m_127) d_Tm_way_21 ?_
    refine lv_goto (tgt := 28) hx hb d_Tm_way_24 (by decide) ?_
    refine rt_lret hx hb hr hlocks () ?_ hP hK hD hS d_Tm_way_28
    try dsimp only
    exact by simp only [rt_wy, if_pos c_18, eq_self, and_self]
set_option maxHeartbeats 4000000 in
set_option maxRecDepth 100000 in
theorem c_Tm_until (l : Launch) (dC : Nat → ClassId) (dI : Nat → Nat → Nat) (h0 : Nat) (sz : Nat) (pd ct cg pn : Int32) :
    rt_Cl l y_Tm_until b_Tm_until 1 (some .long) ({ frames := 1, cells := 0, slots := 0, locals := 22 } : Room) dC dI [] [(h0, .inr (0, [.int pd, .int ct, .int cg, .int pn]))] sz [.ref h0] (fun (r : Int64) (u : Unit) => r = rt_tu pd ct cg pn) (fun _ => []) (fun u => [(h0, .inr (0, [.int pd, .int ct, .int cg, .int pn]))]) 0 0 := by
  refine rt_metl (by decide) (Nat.le_of_ble_eq_true rfl) ?_
  intro p e s m below meth c_ A ls hx hb hr hml hown hts hlocks hin hP hK hD hN hA hS hl
  have hown : s.vm.findClass R_Tm = some m.cls := hown
  have hl : lv_has ls 1 [(0, .ref h0)] := hl
  refine lv_aload_n hx hb d_Tm_until_0 rfl (lv_at hl 0 rfl) ?_
  refine va_get (D := (dC, dI)) (ci := 0) (v := .int pn) (C := R_Tm) (T := F_Tm) (N := 4) hx hb hts i_Tm hown hK hP 0 rfl rfl 3 (by decide) (hts _ m_35) (fun _ h9 => h9) rfl d_Tm_until_1 ?_
  refine lv_if_eq (tgt := 11) hx hb d_Tm_until_4 (by decide) (fun c_4 => ?_) (fun c_4 => ?_)
  · refine lv_aload_n hx hb d_Tm_until_11 rfl (lv_at hl 0 rfl) ?_
    refine va_get (D := (dC, dI)) (ci := 0) (v := .int cg) (C := R_Tm) (T := F_Tm) (N := 4) hx hb hts i_Tm hown hK hP 0 rfl rfl 2 (by decide) (hts _ m_33) (fun _ h9 => h9) rfl d_Tm_until_12 ?_
    refine lv_if_eq (tgt := 25) hx hb d_Tm_until_15 (by decide) (fun c_15 => ?_) (fun c_15 => ?_)
    · refine lv_ldc2 hx hb hown (hts _ m_128) d_Tm_until_25 ?_
      refine rt_lret hx hb hr hlocks () ?_ hP hK hD hS d_Tm_until_28
      try dsimp only
      exact by simp only [rt_tu, if_pos c_4, if_pos c_15, eq_self, and_self]
    · refine lv_aload_n hx hb d_Tm_until_18 rfl (lv_at hl 0 rfl) ?_
      refine rt_gl (wr := []) (rt_runV (rest := []) ⟨hx, hb, hml, hown, hts⟩ (c_Tm_way l dC dI h0 s.heap.size pd ct cg pn) (rt_gV m_122 m_124 m_2 m_11 m_125) hd_Tm_way ⟨Nat.le_of_ble_eq_true rfl, Nat.le_of_ble_eq_true rfl, rfl, rfl⟩ hP hK hD hN [0] [] (by decide) rfl rfl rfl rfl rfl hl.1 rfl (Nat.le_of_ble_eq_true rfl) d_Tm_until_19 ⟨Nat.le_of_ble_eq_true rfl, Nat.le_of_ble_eq_true rfl⟩) hP hD hS hA [0] [] rfl rfl (by decide) (by decide) (fun r_19 u_19 H locs hw_19 hP hD hS _ => ?_)
      try dsimp only at hw_19
      have w0_19 := hw_19
      obtain rfl := w0_19.symm
      have hP : va_P (dC, dI) classes [(h0, .inr (0, [.int pd, .int ct, .int cg, .int pn]))] H := hP
      have hD : va_D A [(h0, .inr (0, [.int pd, .int ct, .int cg, .int pn]))] := hD
      refine lv_goto (tgt := 28) hx hb d_Tm_until_22 (by decide) ?_
      refine rt_lret hx hb hr hlocks () ?_ hP hK hD hS d_Tm_until_28
      try dsimp only
      exact by simp only [rt_tu, if_pos c_4, if_neg c_15, eq_self, and_self]
  · refine lv_lconst (v := 0) hx hb d_Tm_until_7 (by decide) ?_
    refine lv_goto (tgt := 28) hx hb d_Tm_until_8 (by decide) ?_
    refine rt_lret hx hb hr hlocks () ?_ hP hK hD hS d_Tm_until_28
    try dsimp only
    exact by simp only [rt_tu, if_neg c_4, eq_self, and_self]
set_option maxHeartbeats 4000000 in
set_option maxRecDepth 100000 in
theorem c_Tm_leap (l : Launch) (dC : Nat → ClassId) (dI : Nat → Nat → Nat) (h0 : Nat) (sz : Nat) (pd ct cg pn : Int32) (st : Int64) :
    rt_Cv l y_Tm_leap b_Tm_leap 7 none ({ frames := 1, cells := 0, slots := 0, locals := 22 } : Room) dC dI [] [(h0, .inr (0, [.int pd, .int ct, .int cg, .int pn]))] sz [.ref h0, .long st] (fun (u : Int32 × Int32) => u.1 = rt_lc pd ct cg st ∧ u.2 = rt_lp pd ct cg pn st) (fun _ => []) (fun u => [(h0, .inr (0, [.int pd, .int u.1, .int cg, .int u.2]))]) 0 0 := by
  refine rt_metv (by decide) (Nat.le_of_ble_eq_true rfl) ?_
  intro p e s m below meth c_ A ls hx hb hr hml hown hts hlocks hin hP hK hD hN hA hS hl
  have hown : s.vm.findClass R_Tm = some m.cls := hown
  have hl : lv_has ls 7 [(0, .ref h0), (1, .long st)] := hl
  refine lv_aload_n hx hb d_Tm_leap_0 rfl (lv_at hl 0 rfl) ?_
  refine va_get (D := (dC, dI)) (ci := 0) (v := .int cg) (C := R_Tm) (T := F_Tm) (N := 4) hx hb hts i_Tm hown hK hP 0 rfl rfl 2 (by decide) (hts _ m_33) (fun _ h9 => h9) rfl d_Tm_leap_1 ?_
  refine lv_if_ne (tgt := 8) hx hb d_Tm_leap_4 (by decide) (fun c_4 => ?_) (fun c_4 => ?_)
  · refine lv_aload_n hx hb d_Tm_leap_8 rfl (lv_at hl 0 rfl) ?_
    refine rt_gl (wr := []) (rt_runV (rest := []) ⟨hx, hb, hml, hown, hts⟩ (c_Tm_way l dC dI h0 s.heap.size pd ct cg pn) (rt_gV m_122 m_124 m_2 m_11 m_125) hd_Tm_way ⟨Nat.le_of_ble_eq_true rfl, Nat.le_of_ble_eq_true rfl, rfl, rfl⟩ hP hK hD hN [0] [] (by decide) rfl rfl rfl rfl rfl hl.1 rfl (Nat.le_of_ble_eq_true rfl) d_Tm_leap_9 ⟨Nat.le_of_ble_eq_true rfl, Nat.le_of_ble_eq_true rfl⟩) hP hD hS hA [0] [] rfl rfl (by decide) (by decide) (fun r_9 u_9 H locs hw_9 hP hD hS _ => ?_)
    try dsimp only at hw_9
    have w0_9 := hw_9
    obtain rfl := w0_9.symm
    have hP : va_P (dC, dI) classes [(h0, .inr (0, [.int pd, .int ct, .int cg, .int pn]))] H := hP
    have hD : va_D A [(h0, .inr (0, [.int pd, .int ct, .int cg, .int pn]))] := hD
    refine lv_lstore_n (lv' := [(3, .long (rt_wy pd ct)), (0, .ref h0), (1, .long st)]) hx hb d_Tm_leap_12 rfl hl (by decide) rfl (fun ls hl => ?_)
    refine lv_lload_n hx hb d_Tm_leap_13 rfl (lv_at hl 2 rfl) ?_
    refine lv_lload_n hx hb d_Tm_leap_14 rfl (lv_at hl 0 rfl) ?_
    refine W.lcmp hx hb d_Tm_leap_15 ?_
    refine lv_if_ge (tgt := 31) hx hb d_Tm_leap_16 (by decide) (fun c_16 => ?_) (fun c_16 => ?_)
    · rw [lg_cmp_ge] at c_16
      refine lv_aload_n hx hb d_Tm_leap_31 rfl (lv_at hl 1 rfl) ?_
      refine lv_iconst (v := 1) hx hb d_Tm_leap_32 (by decide) ?_
      refine va_put (D := (dC, dI)) (ci := 0) (v := .int 1) (ty := .boolean) (C := R_Tm) (T := F_Tm) (N := 4) hx hb hts i_Tm t_Tm t_Tm_ok n_Tm hown hK hP hD hS 0 rfl rfl 3 (by decide) (hts _ m_35) (fun _ h9 => h9) rfl (by decide +kernel) rfl rfl (Nat.le_of_ble_eq_true rfl) d_Tm_leap_33 (fun H locs hP hD hS => ?_)
      have hP : va_P (dC, dI) classes [(h0, .inr (0, [.int pd, .int ct, .int cg, .int 1]))] H := hP
      have hD : va_D A [(h0, .inr (0, [.int pd, .int ct, .int cg, .int 1]))] := hD
      refine lv_lload_n hx hb d_Tm_leap_36 rfl (lv_at hl 2 rfl) ?_
      refine lv_lload_n hx hb d_Tm_leap_37 rfl (lv_at hl 0 rfl) ?_
      refine lv_lsub hx hb d_Tm_leap_38 ?_
      refine lv_lstore (lv' := [(5, .long (st - (rt_wy pd ct))), (3, .long (rt_wy pd ct)), (0, .ref h0), (1, .long st)]) hx hb d_Tm_leap_39 hl (by decide) rfl (fun ls hl => ?_)
      refine lv_aload_n hx hb d_Tm_leap_41 rfl (lv_at hl 2 rfl) ?_
      refine lv_aload_n hx hb d_Tm_leap_42 rfl (lv_at hl 2 rfl) ?_
      refine va_get (D := (dC, dI)) (ci := 0) (v := .int pd) (C := R_Tm) (T := F_Tm) (N := 4) hx hb hts i_Tm hown hK hP 0 rfl rfl 0 (by decide) (hts _ m_29) (fun _ h9 => h9) rfl d_Tm_leap_43 ?_
      refine lv_if_ne (tgt := 54) hx hb d_Tm_leap_46 (by decide) (fun c_46 => ?_) (fun c_46 => ?_)
      · refine lv_lload hx hb d_Tm_leap_54 (lv_at hl 0 rfl) ?_
        refine lv_aload_n hx hb d_Tm_leap_56 rfl (lv_at hl 2 rfl) ?_
        refine va_get (D := (dC, dI)) (ci := 0) (v := .int pd) (C := R_Tm) (T := F_Tm) (N := 4) hx hb hts i_Tm hown hK hP 0 rfl rfl 0 (by decide) (hts _ m_29) (fun _ h9 => h9) rfl d_Tm_leap_57 ?_
        refine lv_i2l (v := pd.toInt64) hx hb d_Tm_leap_60 rfl ?_
        refine lv_lrem hx hb d_Tm_leap_61 (rt_l0 c_46) ?_
        refine lv_l2i (v := ((st - (rt_wy pd ct)) - (st - (rt_wy pd ct)) / pd.toInt64 * pd.toInt64).toInt32) hx hb d_Tm_leap_62 rfl ?_
        refine va_put (D := (dC, dI)) (ci := 0) (v := .int (((st - (rt_wy pd ct)) - (st - (rt_wy pd ct)) / pd.toInt64 * pd.toInt64).toInt32)) (ty := .int) (C := R_Tm) (T := F_Tm) (N := 4) hx hb hts i_Tm t_Tm t_Tm_ok n_Tm hown hK hP hD hS 0 rfl rfl 1 (by decide) (hts _ m_31) (fun _ h9 => h9) rfl (by decide +kernel) rfl rfl (Nat.le_of_ble_eq_true rfl) d_Tm_leap_63 (fun H locs hP hD hS => ?_)
        have hP : va_P (dC, dI) classes [(h0, .inr (0, [.int pd, .int (((st - (rt_wy pd ct)) - (st - (rt_wy pd ct)) / pd.toInt64 * pd.toInt64).toInt32), .int cg, .int 1]))] H := hP
        have hD : va_D A [(h0, .inr (0, [.int pd, .int (((st - (rt_wy pd ct)) - (st - (rt_wy pd ct)) / pd.toInt64 * pd.toInt64).toInt32), .int cg, .int 1]))] := hD
        refine rt_vret hx hb hr hlocks ((((st - (rt_wy pd ct)) - (st - (rt_wy pd ct)) / pd.toInt64 * pd.toInt64).toInt32), 1) ?_ hP hK hD hS d_Tm_leap_66
        try dsimp only
        exact by simp only [rt_lc, rt_lp, if_neg c_4, if_pos c_16, if_neg c_46, eq_self, and_self]
      · refine lv_lload hx hb d_Tm_leap_49 (lv_at hl 0 rfl) ?_
        refine lv_goto (tgt := 62) hx hb d_Tm_leap_51 (by decide) ?_
        refine lv_l2i (v := (st - (rt_wy pd ct)).toInt32) hx hb d_Tm_leap_62 rfl ?_
        refine va_put (D := (dC, dI)) (ci := 0) (v := .int ((st - (rt_wy pd ct)).toInt32)) (ty := .int) (C := R_Tm) (T := F_Tm) (N := 4) hx hb hts i_Tm t_Tm t_Tm_ok n_Tm hown hK hP hD hS 0 rfl rfl 1 (by decide) (hts _ m_31) (fun _ h9 => h9) rfl (by decide +kernel) rfl rfl (Nat.le_of_ble_eq_true rfl) d_Tm_leap_63 (fun H locs hP hD hS => ?_)
        have hP : va_P (dC, dI) classes [(h0, .inr (0, [.int pd, .int ((st - (rt_wy pd ct)).toInt32), .int cg, .int 1]))] H := hP
        have hD : va_D A [(h0, .inr (0, [.int pd, .int ((st - (rt_wy pd ct)).toInt32), .int cg, .int 1]))] := hD
        refine rt_vret hx hb hr hlocks (((st - (rt_wy pd ct)).toInt32), 1) ?_ hP hK hD hS d_Tm_leap_66
        try dsimp only
        exact by simp only [rt_lc, rt_lp, if_neg c_4, if_pos c_16, if_pos c_46, eq_self, and_self]
    · rw [lg_cmp_ge] at c_16
      refine lv_aload_n hx hb d_Tm_leap_19 rfl (lv_at hl 1 rfl) ?_
      refine lv_dup hx hb d_Tm_leap_20 rfl ?_
      refine va_get (D := (dC, dI)) (ci := 0) (v := .int ct) (C := R_Tm) (T := F_Tm) (N := 4) hx hb hts i_Tm hown hK hP 0 rfl rfl 1 (by decide) (hts _ m_31) (fun _ h9 => h9) rfl d_Tm_leap_21 ?_
      refine lv_lload_n hx hb d_Tm_leap_24 rfl (lv_at hl 2 rfl) ?_
      refine lv_l2i (v := st.toInt32) hx hb d_Tm_leap_25 rfl ?_
      refine lv_iadd hx hb d_Tm_leap_26 ?_
      refine va_put (D := (dC, dI)) (ci := 0) (v := .int (ct + st.toInt32)) (ty := .int) (C := R_Tm) (T := F_Tm) (N := 4) hx hb hts i_Tm t_Tm t_Tm_ok n_Tm hown hK hP hD hS 0 rfl rfl 1 (by decide) (hts _ m_31) (fun _ h9 => h9) rfl (by decide +kernel) rfl rfl (Nat.le_of_ble_eq_true rfl) d_Tm_leap_27 (fun H locs hP hD hS => ?_)
      have hP : va_P (dC, dI) classes [(h0, .inr (0, [.int pd, .int (ct + st.toInt32), .int cg, .int pn]))] H := hP
      have hD : va_D A [(h0, .inr (0, [.int pd, .int (ct + st.toInt32), .int cg, .int pn]))] := hD
      refine rt_vret hx hb hr hlocks ((ct + st.toInt32), pn) ?_ hP hK hD hS d_Tm_leap_30
      try dsimp only
      exact by simp only [rt_lc, rt_lp, if_neg c_4, if_neg c_16, eq_self, and_self]
  · refine rt_vret hx hb hr hlocks (ct, pn) ?_ hP hK hD hS d_Tm_leap_7
    try dsimp only
    exact by simp only [rt_lc, rt_lp, if_pos c_4, eq_self, and_self]
set_option maxHeartbeats 4000000 in
set_option maxRecDepth 100000 in
theorem c_Rw_add (l : Launch) (dC : Nat → ClassId) (dI : Nat → Nat → Nat) (h0 h1 h2 : Nat) (cC cV : ClassId) (sz : Nat) (n : Nat) (f g : Nat → Int32) (a : Int32) (b : Int32) (hn : n ≤ 32) :
    rt_Ci l y_Rw_add b_Rw_add 3 (some .boolean) ({ frames := 0, cells := 0, slots := 0, locals := 0 } : Room) dC dI [(cC, .int), (cV, .int)] [(h0, .inr (1, [.ref h1, .ref h2, .int (nI n)])), (h1, .inl (cC, 32, .inl f)), (h2, .inl (cV, 32, .inl g))] sz [.ref h0, .int a, .int b] (fun (r : Int32) (u : Nat × (Nat → Int32) × (Nat → Int32)) => r = rt_er f n a ∧ u.1 = rt_en f n a ∧ u.2.1 = rt_ef f n a ∧ u.2.2 = rt_eg f g n a b) (fun _ => [(cC, .int), (cV, .int)]) (fun u => [(h0, .inr (1, [.ref h1, .ref h2, .int (nI u.1)])), (h1, .inl (cC, 32, .inl u.2.1)), (h2, .inl (cV, 32, .inl u.2.2))]) 0 0 := by
  refine rt_meti (by decide) (Nat.le_of_ble_eq_true rfl) ?_
  intro p e s m below meth c_ A ls hx hb hr hml hown hts hlocks hin hP hK hD hN hA hS hl
  have hown : s.vm.findClass R_Rw = some m.cls := hown
  have hl : lv_has ls 3 [(0, .ref h0), (1, .int a), (2, .int b)] := hl
  refine lv_iload_n hx hb d_Rw_add_0 rfl (lv_at hl 1 rfl) ?_
  refine lv_if_lt (tgt := 35) hx hb d_Rw_add_1 (by decide) (fun c_1 => ?_) (fun c_1 => ?_)
  · refine lv_iconst (v := 0) hx hb d_Rw_add_35 (by decide) ?_
    refine rt_zret hx hb hr hlocks rfl (n, f, g) ?_ hP hK hD hS d_Rw_add_36
    try dsimp only
    exact by simp [rt_er, rt_en, rt_ef, rt_eg, rt_ok, c_1]
  · refine lv_aload_n hx hb d_Rw_add_4 rfl (lv_at hl 0 rfl) ?_
    refine va_get (D := (dC, dI)) (ci := 1) (v := .int (nI n)) (C := R_Rw) (T := F_Rw) (N := 3) hx hb hts i_Rw hown hK hP 0 rfl rfl 2 (by decide) (hts _ m_56) (fun _ h9 => h9) rfl d_Rw_add_5 ?_
    refine lv_bipush (v := 32) hx hb d_Rw_add_8 (by decide) ?_
    refine lv_icmp_eq (tgt := 35) hx hb d_Rw_add_10 (by decide) (fun c_10 => ?_) (fun c_10 => ?_)
    · rw [rt_n32 hn] at c_10
      refine lv_iconst (v := 0) hx hb d_Rw_add_35 (by decide) ?_
      refine rt_zret hx hb hr hlocks rfl (n, f, g) ?_ hP hK hD hS d_Rw_add_36
      try dsimp only
      exact by simp [rt_er, rt_en, rt_ef, rt_eg, rt_ok, c_1, c_10]
    · rw [rt_n32 hn] at c_10
      refine lv_aload_n hx hb d_Rw_add_13 rfl (lv_at hl 0 rfl) ?_
      refine va_get (D := (dC, dI)) (ci := 1) (v := .int (nI n)) (C := R_Rw) (T := F_Rw) (N := 3) hx hb hts i_Rw hown hK hP 0 rfl rfl 2 (by decide) (hts _ m_56) (fun _ h9 => h9) rfl d_Rw_add_14 ?_
      refine lv_if_le (tgt := 37) hx hb d_Rw_add_17 (by decide) (fun c_17 => ?_) (fun c_17 => ?_)
      · rw [rt_n0 hn] at c_17
        refine lv_aload_n hx hb d_Rw_add_37 rfl (lv_at hl 0 rfl) ?_
        refine va_get (D := (dC, dI)) (ci := 1) (v := .ref h1) (C := R_Rw) (T := F_Rw) (N := 3) hx hb hts i_Rw hown hK hP 0 rfl rfl 0 (by decide) (hts _ m_52) (fun _ h9 => h9) rfl d_Rw_add_38 ?_
        refine lv_aload_n hx hb d_Rw_add_41 rfl (lv_at hl 0 rfl) ?_
        refine va_get (D := (dC, dI)) (ci := 1) (v := .int (nI n)) (C := R_Rw) (T := F_Rw) (N := 3) hx hb hts i_Rw hown hK hP 0 rfl rfl 2 (by decide) (hts _ m_56) (fun _ h9 => h9) rfl d_Rw_add_42 ?_
        refine lv_iload_n hx hb d_Rw_add_45 rfl (lv_at hl 1 rfl) ?_
        refine rt_iast hx hb hK hP hD hS 1 0 rfl rfl n rfl (by omega) (by decide) d_Rw_add_46 (fun H locs hP hD hS => ?_)
        have hP : va_P (dC, dI) classes [(h0, .inr (1, [.ref h1, .ref h2, .int (nI n)])), (h1, .inl (cC, 32, .inl (upd f n a))), (h2, .inl (cV, 32, .inl g))] H := hP
        have hD : va_D A [(h0, .inr (1, [.ref h1, .ref h2, .int (nI n)])), (h1, .inl (cC, 32, .inl (upd f n a))), (h2, .inl (cV, 32, .inl g))] := hD
        refine lv_aload_n hx hb d_Rw_add_47 rfl (lv_at hl 0 rfl) ?_
        refine va_get (D := (dC, dI)) (ci := 1) (v := .ref h2) (C := R_Rw) (T := F_Rw) (N := 3) hx hb hts i_Rw hown hK hP 0 rfl rfl 1 (by decide) (hts _ m_54) (fun _ h9 => h9) rfl d_Rw_add_48 ?_
        refine lv_aload_n hx hb d_Rw_add_51 rfl (lv_at hl 0 rfl) ?_
        refine va_get (D := (dC, dI)) (ci := 1) (v := .int (nI n)) (C := R_Rw) (T := F_Rw) (N := 3) hx hb hts i_Rw hown hK hP 0 rfl rfl 2 (by decide) (hts _ m_56) (fun _ h9 => h9) rfl d_Rw_add_52 ?_
        refine lv_iload_n hx hb d_Rw_add_55 rfl (lv_at hl 2 rfl) ?_
        refine rt_iast hx hb hK hP hD hS 2 1 rfl rfl n rfl (by omega) (by decide) d_Rw_add_56 (fun H locs hP hD hS => ?_)
        have hP : va_P (dC, dI) classes [(h0, .inr (1, [.ref h1, .ref h2, .int (nI n)])), (h1, .inl (cC, 32, .inl (upd f n a))), (h2, .inl (cV, 32, .inl (upd g n b)))] H := hP
        have hD : va_D A [(h0, .inr (1, [.ref h1, .ref h2, .int (nI n)])), (h1, .inl (cC, 32, .inl (upd f n a))), (h2, .inl (cV, 32, .inl (upd g n b)))] := hD
        refine lv_aload_n hx hb d_Rw_add_57 rfl (lv_at hl 0 rfl) ?_
        refine lv_dup hx hb d_Rw_add_58 rfl ?_
        refine va_get (D := (dC, dI)) (ci := 1) (v := .int (nI n)) (C := R_Rw) (T := F_Rw) (N := 3) hx hb hts i_Rw hown hK hP 0 rfl rfl 2 (by decide) (hts _ m_56) (fun _ h9 => h9) rfl d_Rw_add_59 ?_
        refine lv_iconst (v := 1) hx hb d_Rw_add_62 (by decide) ?_
        refine lv_iadd hx hb d_Rw_add_63 ?_
        refine rt_topi (nI (n + 1)) (nI_1 n) ?_
        refine va_put (D := (dC, dI)) (ci := 1) (v := .int (nI (n + 1))) (ty := .int) (C := R_Rw) (T := F_Rw) (N := 3) hx hb hts i_Rw t_Rw t_Rw_ok n_Rw hown hK hP hD hS 0 rfl rfl 2 (by decide) (hts _ m_56) (fun _ h9 => h9) rfl (by decide +kernel) rfl rfl (Nat.le_of_ble_eq_true rfl) d_Rw_add_64 (fun H locs hP hD hS => ?_)
        have hP : va_P (dC, dI) classes [(h0, .inr (1, [.ref h1, .ref h2, .int (nI (n + 1))])), (h1, .inl (cC, 32, .inl (upd f n a))), (h2, .inl (cV, 32, .inl (upd g n b)))] H := hP
        have hD : va_D A [(h0, .inr (1, [.ref h1, .ref h2, .int (nI (n + 1))])), (h1, .inl (cC, 32, .inl (upd f n a))), (h2, .inl (cV, 32, .inl (upd g n b)))] := hD
        refine lv_iconst (v := 1) hx hb d_Rw_add_67 (by decide) ?_
        refine rt_zret hx hb hr hlocks rfl ((n + 1), upd f n a, upd g n b) ?_ hP hK hD hS d_Rw_add_68
        try dsimp only
        exact by simp [rt_er, rt_en, rt_ef, rt_eg, rt_ok, c_1, c_10, c_17]
      · rw [rt_n0 hn] at c_17
        refine lv_iload_n hx hb d_Rw_add_20 rfl (lv_at hl 1 rfl) ?_
        refine lv_aload_n hx hb d_Rw_add_21 rfl (lv_at hl 0 rfl) ?_
        refine va_get (D := (dC, dI)) (ci := 1) (v := .ref h1) (C := R_Rw) (T := F_Rw) (N := 3) hx hb hts i_Rw hown hK hP 0 rfl rfl 0 (by decide) (hts _ m_52) (fun _ h9 => h9) rfl d_Rw_add_22 ?_
        refine lv_aload_n hx hb d_Rw_add_25 rfl (lv_at hl 0 rfl) ?_
        refine va_get (D := (dC, dI)) (ci := 1) (v := .int (nI n)) (C := R_Rw) (T := F_Rw) (N := 3) hx hb hts i_Rw hown hK hP 0 rfl rfl 2 (by decide) (hts _ m_56) (fun _ h9 => h9) rfl d_Rw_add_26 ?_
        refine lv_iconst (v := 1) hx hb d_Rw_add_29 (by decide) ?_
        refine lv_isub hx hb d_Rw_add_30 ?_
        refine rt_iald hx hb hK hP 1 0 rfl rfl (n - 1) (rt_pm c_17) (by omega) (by decide) d_Rw_add_31 ?_
        refine lv_icmp_gt (tgt := 37) hx hb d_Rw_add_32 (by decide) (fun c_32 => ?_) (fun c_32 => ?_)
        · refine lv_aload_n hx hb d_Rw_add_37 rfl (lv_at hl 0 rfl) ?_
          refine va_get (D := (dC, dI)) (ci := 1) (v := .ref h1) (C := R_Rw) (T := F_Rw) (N := 3) hx hb hts i_Rw hown hK hP 0 rfl rfl 0 (by decide) (hts _ m_52) (fun _ h9 => h9) rfl d_Rw_add_38 ?_
          refine lv_aload_n hx hb d_Rw_add_41 rfl (lv_at hl 0 rfl) ?_
          refine va_get (D := (dC, dI)) (ci := 1) (v := .int (nI n)) (C := R_Rw) (T := F_Rw) (N := 3) hx hb hts i_Rw hown hK hP 0 rfl rfl 2 (by decide) (hts _ m_56) (fun _ h9 => h9) rfl d_Rw_add_42 ?_
          refine lv_iload_n hx hb d_Rw_add_45 rfl (lv_at hl 1 rfl) ?_
          refine rt_iast hx hb hK hP hD hS 1 0 rfl rfl n rfl (by omega) (by decide) d_Rw_add_46 (fun H locs hP hD hS => ?_)
          have hP : va_P (dC, dI) classes [(h0, .inr (1, [.ref h1, .ref h2, .int (nI n)])), (h1, .inl (cC, 32, .inl (upd f n a))), (h2, .inl (cV, 32, .inl g))] H := hP
          have hD : va_D A [(h0, .inr (1, [.ref h1, .ref h2, .int (nI n)])), (h1, .inl (cC, 32, .inl (upd f n a))), (h2, .inl (cV, 32, .inl g))] := hD
          refine lv_aload_n hx hb d_Rw_add_47 rfl (lv_at hl 0 rfl) ?_
          refine va_get (D := (dC, dI)) (ci := 1) (v := .ref h2) (C := R_Rw) (T := F_Rw) (N := 3) hx hb hts i_Rw hown hK hP 0 rfl rfl 1 (by decide) (hts _ m_54) (fun _ h9 => h9) rfl d_Rw_add_48 ?_
          refine lv_aload_n hx hb d_Rw_add_51 rfl (lv_at hl 0 rfl) ?_
          refine va_get (D := (dC, dI)) (ci := 1) (v := .int (nI n)) (C := R_Rw) (T := F_Rw) (N := 3) hx hb hts i_Rw hown hK hP 0 rfl rfl 2 (by decide) (hts _ m_56) (fun _ h9 => h9) rfl d_Rw_add_52 ?_
          refine lv_iload_n hx hb d_Rw_add_55 rfl (lv_at hl 2 rfl) ?_
          refine rt_iast hx hb hK hP hD hS 2 1 rfl rfl n rfl (by omega) (by decide) d_Rw_add_56 (fun H locs hP hD hS => ?_)
          have hP : va_P (dC, dI) classes [(h0, .inr (1, [.ref h1, .ref h2, .int (nI n)])), (h1, .inl (cC, 32, .inl (upd f n a))), (h2, .inl (cV, 32, .inl (upd g n b)))] H := hP
          have hD : va_D A [(h0, .inr (1, [.ref h1, .ref h2, .int (nI n)])), (h1, .inl (cC, 32, .inl (upd f n a))), (h2, .inl (cV, 32, .inl (upd g n b)))] := hD
          refine lv_aload_n hx hb d_Rw_add_57 rfl (lv_at hl 0 rfl) ?_
          refine lv_dup hx hb d_Rw_add_58 rfl ?_
          refine va_get (D := (dC, dI)) (ci := 1) (v := .int (nI n)) (C := R_Rw) (T := F_Rw) (N := 3) hx hb hts i_Rw hown hK hP 0 rfl rfl 2 (by decide) (hts _ m_56) (fun _ h9 => h9) rfl d_Rw_add_59 ?_
          refine lv_iconst (v := 1) hx hb d_Rw_add_62 (by decide) ?_
          refine lv_iadd hx hb d_Rw_add_63 ?_
          refine rt_topi (nI (n + 1)) (nI_1 n) ?_
          refine va_put (D := (dC, dI)) (ci := 1) (v := .int (nI (n + 1))) (ty := .int) (C := R_Rw) (T := F_Rw) (N := 3) hx hb hts i_Rw t_Rw t_Rw_ok n_Rw hown hK hP hD hS 0 rfl rfl 2 (by decide) (hts _ m_56) (fun _ h9 => h9) rfl (by decide +kernel) rfl rfl (Nat.le_of_ble_eq_true rfl) d_Rw_add_64 (fun H locs hP hD hS => ?_)
          have hP : va_P (dC, dI) classes [(h0, .inr (1, [.ref h1, .ref h2, .int (nI (n + 1))])), (h1, .inl (cC, 32, .inl (upd f n a))), (h2, .inl (cV, 32, .inl (upd g n b)))] H := hP
          have hD : va_D A [(h0, .inr (1, [.ref h1, .ref h2, .int (nI (n + 1))])), (h1, .inl (cC, 32, .inl (upd f n a))), (h2, .inl (cV, 32, .inl (upd g n b)))] := hD
          refine lv_iconst (v := 1) hx hb d_Rw_add_67 (by decide) ?_
          refine rt_zret hx hb hr hlocks rfl ((n + 1), upd f n a, upd g n b) ?_ hP hK hD hS d_Rw_add_68
          try dsimp only
          exact by simp [rt_er, rt_en, rt_ef, rt_eg, rt_ok, c_1, c_10, c_17, c_32]
        · refine lv_iconst (v := 0) hx hb d_Rw_add_35 (by decide) ?_
          refine rt_zret hx hb hr hlocks rfl (n, f, g) ?_ hP hK hD hS d_Rw_add_36
          try dsimp only
          exact by simp [rt_er, rt_en, rt_ef, rt_eg, rt_ok, c_1, c_10, c_17, c_32]
set_option maxHeartbeats 4000000 in
set_option maxRecDepth 100000 in
theorem c_Rw_at (l : Launch) (dC : Nat → ClassId) (dI : Nat → Nat → Nat) (h0 h1 h2 : Nat) (cC cV : ClassId) (sz : Nat) (n : Nat) (f g : Nat → Int32) (x : Int32) (c : Nat) (hn : n ≤ 32) (hc : rt_cut f n x c) :
    rt_Ci l y_Rw_at b_Rw_at 5 (some .int) ({ frames := 0, cells := 0, slots := 0, locals := 0 } : Room) dC dI [(cC, .int), (cV, .int)] [(h0, .inr (1, [.ref h1, .ref h2, .int (nI n)])), (h1, .inl (cC, 32, .inl f)), (h2, .inl (cV, 32, .inl g))] sz [.ref h0, .int x] (fun (r : Int32) (u : Unit) => r = rt_lv g c) (fun _ => [(cC, .int), (cV, .int)]) (fun u => [(h0, .inr (1, [.ref h1, .ref h2, .int (nI n)])), (h1, .inl (cC, 32, .inl f)), (h2, .inl (cV, 32, .inl g))]) 0 0 := by
  refine rt_meti (by decide) (Nat.le_of_ble_eq_true rfl) ?_
  intro p e s m below meth c_ A ls hx hb hr hml hown hts hlocks hin hP hK hD hN hA hS hl
  have hown : s.vm.findClass R_Rw = some m.cls := hown
  have hl : lv_has ls 5 [(0, .ref h0), (1, .int x)] := hl
  refine lv_iconst (v := 0) hx hb d_Rw_at_0 (by decide) ?_
  refine rt_topi (nI 0) (nI_0.symm) ?_
  refine lv_istore_n (lv' := [(2, .int (nI 0)), (0, .ref h0), (1, .int x)]) hx hb d_Rw_at_1 rfl hl (by decide) rfl (fun ls hl => ?_)
  refine lv_aload_n hx hb d_Rw_at_2 rfl (lv_at hl 1 rfl) ?_
  refine va_get (D := (dC, dI)) (ci := 1) (v := .int (nI n)) (C := R_Rw) (T := F_Rw) (N := 3) hx hb hts i_Rw hown hK hP 0 rfl rfl 2 (by decide) (hts _ m_56) (fun _ h9 => h9) rfl d_Rw_at_3 ?_
  refine lv_istore_n (lv' := [(3, .int (nI n)), (2, .int (nI 0)), (0, .ref h0), (1, .int x)]) hx hb d_Rw_at_6 rfl hl (by decide) rfl (fun ls hl => ?_)
  refine rt_loop (σ := Nat × Nat) (fun z => z.2 - z.1) (fun z H' locs' ls' => (z.1 ≤ c ∧ c ≤ z.2 ∧ z.2 ≤ n) ∧ s.heap = H' ∧ [] = locs' ∧ lv_has ls' 5 [(0, .ref h0), (1, .int x), (2, .int (nI z.1)), (3, .int (nI z.2))]) ?_ (0, n) _ _ _ ⟨⟨Nat.zero_le _, hc.1, Nat.le_refl _⟩, rfl, rfl, lv_sub hl [2, 3, 1, 0] rfl⟩
  intro z H' locs' ls hz ih
  obtain ⟨lo, hi⟩ := z
  obtain ⟨⟨z1, z2, z3⟩, rfl, rfl, hl⟩ := hz
  dsimp only at z1 z2 z3 hl
  refine lv_iload_n hx hb d_Rw_at_7 rfl (lv_at hl 2 rfl) ?_
  refine lv_iload_n hx hb d_Rw_at_8 rfl (lv_at hl 3 rfl) ?_
  refine lv_icmp_ge (tgt := 44) hx hb d_Rw_at_9 (by decide) (fun c_9 => ?_) (fun c_9 => ?_)
  · rw [nI_leI (by omega) (by omega)] at c_9
    have hlo : lo = c := by omega
    refine lv_iload_n hx hb d_Rw_at_44 rfl (lv_at hl 2 rfl) ?_
    refine lv_if_ne (tgt := 52) hx hb d_Rw_at_45 (by decide) (fun c_45 => ?_) (fun c_45 => ?_)
    · rw [rt_n0e (by omega)] at c_45
      refine lv_aload_n hx hb d_Rw_at_52 rfl (lv_at hl 0 rfl) ?_
      refine va_get (D := (dC, dI)) (ci := 1) (v := .ref h2) (C := R_Rw) (T := F_Rw) (N := 3) hx hb hts i_Rw hown hK hP 0 rfl rfl 1 (by decide) (hts _ m_54) (fun _ h9 => h9) rfl d_Rw_at_53 ?_
      refine lv_iload_n hx hb d_Rw_at_56 rfl (lv_at hl 2 rfl) ?_
      refine lv_iconst (v := 1) hx hb d_Rw_at_57 (by decide) ?_
      refine lv_isub hx hb d_Rw_at_58 ?_
      refine rt_iald hx hb hK hP 2 1 rfl rfl (lo - 1) (rt_pm c_45) (by omega) (by decide) d_Rw_at_59 ?_
      refine rt_iret hx hb hr hlocks () ?_ hP hK hD hS d_Rw_at_60
      try dsimp only
      exact by simp [rt_lv, ← hlo, c_45]
    · rw [rt_n0e (by omega)] at c_45
      refine lv_iconst (v := 0) hx hb d_Rw_at_48 (by decide) ?_
      refine lv_goto (tgt := 60) hx hb d_Rw_at_49 (by decide) ?_
      refine rt_iret hx hb hr hlocks () ?_ hP hK hD hS d_Rw_at_60
      try dsimp only
      exact by simp [rt_lv, ← hlo, c_45]
  · rw [nI_leI (by omega) (by omega)] at c_9
    refine lv_iload_n hx hb d_Rw_at_12 rfl (lv_at hl 2 rfl) ?_
    refine lv_iload_n hx hb d_Rw_at_13 rfl (lv_at hl 3 rfl) ?_
    refine lv_iadd hx hb d_Rw_at_14 ?_
    refine lv_iconst (v := 2) hx hb d_Rw_at_15 (by decide) ?_
    refine lv_idiv hx hb d_Rw_at_16 (by decide) ?_
    refine rt_topi (nI ((lo + hi) / 2)) (by rw [nI_add, show (2 : Int32) = nI 2 from rfl, pk_div (by omega) (by decide) (by decide)]) ?_
    refine lv_istore (lv' := [(4, .int (nI ((lo + hi) / 2))), (0, .ref h0), (1, .int x), (2, .int (nI lo)), (3, .int (nI hi))]) hx hb d_Rw_at_17 hl (by decide) rfl (fun ls hl => ?_)
    refine lv_aload_n hx hb d_Rw_at_19 rfl (lv_at hl 1 rfl) ?_
    refine va_get (D := (dC, dI)) (ci := 1) (v := .ref h1) (C := R_Rw) (T := F_Rw) (N := 3) hx hb hts i_Rw hown hK hP 0 rfl rfl 0 (by decide) (hts _ m_52) (fun _ h9 => h9) rfl d_Rw_at_20 ?_
    refine lv_iload hx hb d_Rw_at_23 (lv_at hl 0 rfl) ?_
    refine rt_iald hx hb hK hP 1 0 rfl rfl ((lo + hi) / 2) rfl (by omega) (by decide) d_Rw_at_25 ?_
    refine lv_iload_n hx hb d_Rw_at_26 rfl (lv_at hl 2 rfl) ?_
    refine lv_icmp_gt (tgt := 38) hx hb d_Rw_at_27 (by decide) (fun c_27 => ?_) (fun c_27 => ?_)
    · have hm : c ≤ (lo + hi) / 2 := by
        rcases Nat.lt_or_ge ((lo + hi) / 2) c with q | q
        · exact absurd c_27 (rt_nlt.mpr (hc.2.1 _ q))
        · exact q
      refine lv_iload hx hb d_Rw_at_38 (lv_at hl 0 rfl) ?_
      refine lv_istore_n (lv' := [(3, .int (nI ((lo + hi) / 2))), (4, .int (nI ((lo + hi) / 2))), (0, .ref h0), (1, .int x), (2, .int (nI lo))]) hx hb d_Rw_at_40 rfl hl (by decide) rfl (fun ls hl => ?_)
      refine lv_goto (tgt := 7) hx hb d_Rw_at_41 (by decide) ?_
      exact ih (lo, ((lo + hi) / 2)) _ _ _ (by dsimp only; omega) ⟨⟨by dsimp only; omega, by dsimp only; omega, by dsimp only; omega⟩, rfl, rfl, lv_sub hl [2, 3, 4, 0] rfl⟩
    · have hm : (lo + hi) / 2 < c := by
        rcases Nat.lt_or_ge ((lo + hi) / 2) c with q | q
        · exact q
        · exact absurd (hc.2.2 _ q (by omega)) c_27
      refine lv_iload hx hb d_Rw_at_30 (lv_at hl 0 rfl) ?_
      refine lv_iconst (v := 1) hx hb d_Rw_at_32 (by decide) ?_
      refine lv_iadd hx hb d_Rw_at_33 ?_
      refine rt_topi (nI ((lo + hi) / 2 + 1)) (nI_1 _) ?_
      refine lv_istore_n (lv' := [(2, .int (nI ((lo + hi) / 2 + 1))), (4, .int (nI ((lo + hi) / 2))), (0, .ref h0), (1, .int x), (3, .int (nI hi))]) hx hb d_Rw_at_34 rfl hl (by decide) rfl (fun ls hl => ?_)
      refine lv_goto (tgt := 41) hx hb d_Rw_at_35 (by decide) ?_
      refine lv_goto (tgt := 7) hx hb d_Rw_at_41 (by decide) ?_
      exact ih (((lo + hi) / 2 + 1), hi) _ _ _ (by dsimp only; omega) ⟨⟨by dsimp only; omega, by dsimp only; omega, by dsimp only; omega⟩, rfl, rfl, lv_sub hl [2, 3, 0, 4] rfl⟩
set_option maxHeartbeats 4000000 in
set_option maxRecDepth 100000 in
theorem c_Rw_until (l : Launch) (dC : Nat → ClassId) (dI : Nat → Nat → Nat) (h0 h1 h2 : Nat) (cC cV : ClassId) (sz : Nat) (n : Nat) (f g : Nat → Int32) (x : Int32) (mk : Int32) (c k : Nat) (hn : n ≤ 32) (hc : rt_cut f n x c) (hk : rt_nx g mk n c k) :
    rt_Cl l y_Rw_until b_Rw_until 4 (some .long) ({ frames := 1, cells := 0, slots := 0, locals := 24 } : Room) dC dI [(cC, .int), (cV, .int)] [(h0, .inr (1, [.ref h1, .ref h2, .int (nI n)])), (h1, .inl (cC, 32, .inl f)), (h2, .inl (cV, 32, .inl g))] sz [.ref h0, .int x, .int mk] (fun (r : Int64) (u : Unit) => r = rt_ru x mk n f g c k) (fun _ => [(cC, .int), (cV, .int)]) (fun u => [(h0, .inr (1, [.ref h1, .ref h2, .int (nI n)])), (h1, .inl (cC, 32, .inl f)), (h2, .inl (cV, 32, .inl g))]) 0 0 := by
  refine rt_metl (by decide) (Nat.le_of_ble_eq_true rfl) ?_
  intro p e s m below meth c_ A ls hx hb hr hml hown hts hlocks hin hP hK hD hN hA hS hl
  have hown : s.vm.findClass R_Rw = some m.cls := hown
  have hl : lv_has ls 4 [(0, .ref h0), (1, .int x), (2, .int mk)] := hl
  refine lv_aload_n hx hb d_Rw_until_0 rfl (lv_at hl 0 rfl) ?_
  refine lv_iload_n hx hb d_Rw_until_1 rfl (lv_at hl 1 rfl) ?_
  refine rt_gi (wr := []) (rt_runV (rest := []) ⟨hx, hb, hml, hown, hts⟩ (c_Rw_at l dC dI h0 h1 h2 cC cV s.heap.size n f g x c hn hc) (rt_gV m_138 m_139 m_140 m_12 m_141) hd_Rw_at ⟨Nat.le_of_ble_eq_true rfl, Nat.le_of_ble_eq_true rfl, rfl, rfl⟩ hP hK hD hN [0, 1, 2] [0, 1] (by decide) rfl rfl rfl rfl rfl hl.1 rfl (Nat.le_of_ble_eq_true rfl) d_Rw_until_2 ⟨Nat.le_of_ble_eq_true rfl, Nat.le_of_ble_eq_true rfl⟩) hP hD hS hA [0, 1, 2] [] rfl rfl (by decide) (by decide) (fun r_2 u_2 H locs hw_2 hP hD hS _ => ?_)
  try dsimp only at hw_2
  have w0_2 := hw_2
  obtain rfl := w0_2.symm
  have hP : va_P (dC, dI) classes [(h0, .inr (1, [.ref h1, .ref h2, .int (nI n)])), (h1, .inl (cC, 32, .inl f)), (h2, .inl (cV, 32, .inl g))] H := hP
  have hD : va_D A [(h0, .inr (1, [.ref h1, .ref h2, .int (nI n)])), (h1, .inl (cC, 32, .inl f)), (h2, .inl (cV, 32, .inl g))] := hD
  refine lv_iload_n hx hb d_Rw_until_5 rfl (lv_at hl 2 rfl) ?_
  refine lv_iand hx hb d_Rw_until_6 ?_
  refine lv_if_eq (tgt := 12) hx hb d_Rw_until_7 (by decide) (fun c_7 => ?_) (fun c_7 => ?_)
  · refine lv_iconst (v := 0) hx hb d_Rw_until_12 (by decide) ?_
    refine rt_topi (nI 0) (nI_0.symm) ?_
    refine lv_istore_n (lv' := [(3, .int (nI 0)), (0, .ref h0), (1, .int x), (2, .int mk)]) hx hb d_Rw_until_13 rfl hl (by decide) rfl (fun ls hl => ?_)
    refine rt_loop (σ := Nat) (fun j => n - j) (fun j H' locs' ls' => j ≤ k ∧ H = H' ∧ locs = locs' ∧ lv_has ls' 4 [(0, .ref h0), (1, .int x), (2, .int mk), (3, .int (nI j))]) ?_ 0 _ _ _ ⟨Nat.zero_le _, rfl, rfl, lv_sub hl [1, 2, 3, 0] rfl⟩
    intro j H' locs' ls hz ih
    obtain ⟨z1, rfl, rfl, hl⟩ := hz
    have hk2 := hk.2.1
    refine lv_iload_n hx hb d_Rw_until_14 rfl (lv_at hl 3 rfl) ?_
    refine lv_aload_n hx hb d_Rw_until_15 rfl (lv_at hl 0 rfl) ?_
    refine va_get (D := (dC, dI)) (ci := 1) (v := .int (nI n)) (C := R_Rw) (T := F_Rw) (N := 3) hx hb hts i_Rw hown hK hP 0 rfl rfl 2 (by decide) (hts _ m_56) (fun _ h9 => h9) rfl d_Rw_until_16 ?_
    refine lv_icmp_ge (tgt := 59) hx hb d_Rw_until_19 (by decide) (fun c_19 => ?_) (fun c_19 => ?_)
    · rw [nI_leI (by omega) (by omega)] at c_19
      refine lv_ldc2 hx hb hown (hts _ m_142) d_Rw_until_59 ?_
      refine rt_lret hx hb hr hlocks () ?_ hP hK hD hS d_Rw_until_62
      try dsimp only
      exact by rw [rt_ru, if_pos c_7, if_neg (by omega)]
    · rw [nI_leI (by omega) (by omega)] at c_19
      refine lv_aload_n hx hb d_Rw_until_22 rfl (lv_at hl 0 rfl) ?_
      refine va_get (D := (dC, dI)) (ci := 1) (v := .ref h1) (C := R_Rw) (T := F_Rw) (N := 3) hx hb hts i_Rw hown hK hP 0 rfl rfl 0 (by decide) (hts _ m_52) (fun _ h9 => h9) rfl d_Rw_until_23 ?_
      refine lv_iload_n hx hb d_Rw_until_26 rfl (lv_at hl 3 rfl) ?_
      refine rt_iald hx hb hK hP 1 0 rfl rfl j rfl (by omega) (by decide) d_Rw_until_27 ?_
      refine lv_iload_n hx hb d_Rw_until_28 rfl (lv_at hl 1 rfl) ?_
      refine lv_icmp_le (tgt := 53) hx hb d_Rw_until_29 (by decide) (fun c_29 => ?_) (fun c_29 => ?_)
      · have hm : j < k := by
          rcases Nat.lt_or_ge j c with q | q
          · exact Nat.lt_of_lt_of_le q hk.1
          · exact absurd (hc.2.2 _ q (by omega)) (rt_nlt.mpr c_29)
        refine lv_iinc (v := (nI (j + 1))) (lv' := [(3, .int (nI (j + 1))), (0, .ref h0), (1, .int x), (2, .int mk)]) hx hb d_Rw_until_53 hl (k := 3) rfl (nI_1 j) (by decide) rfl (fun ls hl => ?_)
        refine lv_goto (tgt := 14) hx hb d_Rw_until_56 (by decide) ?_
        exact ih (j + 1) _ _ _ (by omega) ⟨by omega, rfl, rfl, lv_sub hl [1, 2, 3, 0] rfl⟩
      · have hm : c ≤ j := by
          rcases Nat.lt_or_ge j c with q | q
          · exact absurd (hc.2.1 _ q) c_29
          · exact q
        refine lv_aload_n hx hb d_Rw_until_32 rfl (lv_at hl 0 rfl) ?_
        refine va_get (D := (dC, dI)) (ci := 1) (v := .ref h2) (C := R_Rw) (T := F_Rw) (N := 3) hx hb hts i_Rw hown hK hP 0 rfl rfl 1 (by decide) (hts _ m_54) (fun _ h9 => h9) rfl d_Rw_until_33 ?_
        refine lv_iload_n hx hb d_Rw_until_36 rfl (lv_at hl 3 rfl) ?_
        refine rt_iald hx hb hK hP 2 1 rfl rfl j rfl (by omega) (by decide) d_Rw_until_37 ?_
        refine lv_iload_n hx hb d_Rw_until_38 rfl (lv_at hl 2 rfl) ?_
        refine lv_iand hx hb d_Rw_until_39 ?_
        refine lv_if_eq (tgt := 53) hx hb d_Rw_until_40 (by decide) (fun c_40 => ?_) (fun c_40 => ?_)
        · have hm2 : j < k := by
            rcases Nat.lt_or_ge j k with q | q
            · exact q
            · obtain rfl : j = k := by omega
              exact absurd c_40 (hk.2.2.2 (by omega))
          refine lv_iinc (v := (nI (j + 1))) (lv' := [(3, .int (nI (j + 1))), (0, .ref h0), (1, .int x), (2, .int mk)]) hx hb d_Rw_until_53 hl (k := 3) rfl (nI_1 j) (by decide) rfl (fun ls hl => ?_)
          refine lv_goto (tgt := 14) hx hb d_Rw_until_56 (by decide) ?_
          exact ih (j + 1) _ _ _ (by omega) ⟨by omega, rfl, rfl, lv_sub hl [1, 2, 3, 0] rfl⟩
        · have hm2 : j = k := by
            rcases Nat.lt_or_ge j k with q | q
            · exact absurd (hk.2.2.1 _ hm q) c_40
            · omega
          refine lv_aload_n hx hb d_Rw_until_43 rfl (lv_at hl 0 rfl) ?_
          refine va_get (D := (dC, dI)) (ci := 1) (v := .ref h1) (C := R_Rw) (T := F_Rw) (N := 3) hx hb hts i_Rw hown hK hP 0 rfl rfl 0 (by decide) (hts _ m_52) (fun _ h9 => h9) rfl d_Rw_until_44 ?_
          refine lv_iload_n hx hb d_Rw_until_47 rfl (lv_at hl 3 rfl) ?_
          refine rt_iald hx hb hK hP 1 0 rfl rfl j rfl (by omega) (by decide) d_Rw_until_48 ?_
          refine lv_iload_n hx hb d_Rw_until_49 rfl (lv_at hl 1 rfl) ?_
          refine lv_isub hx hb d_Rw_until_50 ?_
          refine lv_i2l (v := ((f j) - x).toInt64) hx hb d_Rw_until_51 rfl ?_
          refine rt_lret hx hb hr hlocks () ?_ hP hK hD hS d_Rw_until_52
          try dsimp only
          exact by rw [rt_ru, if_pos c_7, if_pos (by omega), hm2]
  · refine lv_lconst (v := 0) hx hb d_Rw_until_10 (by decide) ?_
    refine rt_lret hx hb hr hlocks () ?_ hP hK hD hS d_Rw_until_11
    try dsimp only
    exact by rw [rt_ru, if_neg c_7]
end
section
theorem rt_wyp (pd ct : Int32) : ¬ rt_wy pd ct = 0 := by
  unfold rt_wy
  by_cases h : (pd - ct).toInt64 &&& 4294967295 = 0
  · rw [if_pos h]; decide
  · rw [if_neg h]; exact h
theorem rt_wt0 {sr pd ct cg pn : Int32} : rt_wt sr pd ct cg pn = 0 ↔ (¬ sr &&& 2 = 0 ∧ ¬ pn = 0) := by
  unfold rt_wt rt_tu
  by_cases h1 : sr &&& 2 = 0
  · rw [if_pos h1]; exact ⟨fun h => absurd h (by decide), fun h => absurd h1 h.1⟩
  · rw [if_neg h1]
    by_cases h2 : pn = 0
    · rw [if_pos h2]
      by_cases h3 : cg = 0
      · rw [if_pos h3]; exact ⟨fun h => absurd h (by decide), fun h => absurd h2 h.2⟩
      · rw [if_neg h3]; exact ⟨fun h => absurd h (rt_wyp _ _), fun h => absurd h2 h.2⟩
    · rw [if_neg h2]; exact ⟨fun _ => ⟨h1, h2⟩, fun _ => rfl⟩
theorem rt_sub0 {a b : Int32} (h : a - b = 0) : a = b := by
  have h2 : a - b + b = 0 + b := by rw [h]
  rw [Int32.sub_add_cancel, Int32.zero_add] at h2
  exact h2
theorem rt_ltne {a b : Int32} (h : a < b) : ¬ b = a := by
  rintro rfl
  rw [Int32.lt_iff_toInt_lt] at h
  omega
theorem rt_wl0 {sr rt mk : Int32} {n : Nat} {f g : Nat → Int32} {c k : Nat} (hc : rt_cut f n rt c) (hk : rt_nx g mk n c k) : rt_wl sr rt mk n f g c k = 0 ↔ (¬ sr &&& 4 = 0 ∧ ¬ rt_lv g c &&& mk = 0) := by
  unfold rt_wl rt_ru
  by_cases h1 : sr &&& 4 = 0
  · rw [if_pos h1]; exact ⟨fun h => absurd h (by decide), fun h => absurd h1 h.1⟩
  · rw [if_neg h1]
    by_cases h2 : rt_lv g c &&& mk = 0
    · rw [if_pos h2]
      by_cases h3 : k < n
      · rw [if_pos h3]
        refine ⟨fun h => ?_, fun h => absurd h2 h.2⟩
        exact absurd (rt_sub0 (Decidable.byContradiction fun q => rt_l0 q h)) (rt_ltne (hc.2.2 k hk.1 h3))
      · rw [if_neg h3]; exact ⟨fun h => absurd h (by decide), fun h => absurd h2 h.2⟩
    · rw [if_neg h2]; exact ⟨fun _ => ⟨h1, h2⟩, fun _ => rfl⟩
theorem rt_cl {a : Int32} (h : ¬ a < 0) : a = nI a.toNatClampNeg := by
  obtain ⟨j, hj, rfl⟩ := nI_of h
  rw [nI_clamp hj]
theorem rt_cl32 {a : Int32} {n : Nat} (h : ¬ a < 0) (h2 : a < nI n) (hn : n ≤ 32) : a.toNatClampNeg < 32 := by
  obtain ⟨j, hj, rfl⟩ := nI_of h
  rw [nI_clamp hj]
  have := (nI_ltI hj (by omega)).mp h2
  omega
theorem rt_out {w : Int32} {N : Int} (h : ∀ j : Int, 0 ≤ j → j ≤ N → ¬ w.toInt = j) : w.toInt < 0 ∨ N < w.toInt := by
  rcases Int.lt_or_le w.toInt 0 with q | q
  · exact Or.inl q
  · rcases Int.lt_or_le N w.toInt with q2 | q2
    · exact Or.inr q2
    · exact absurd rfl (h w.toInt q q2)
end
section
set_option maxHeartbeats 4000000 in
set_option maxRecDepth 100000 in
theorem c_Rt_reset (l : Launch) (dC : Nat → ClassId) (dI : Nat → Nat → Nat) (h0 h1 h2 h3 h4 : Nat) (cC cV : ClassId) (sz : Nat) (rt mk sr sv tk pd ct cg pn : Int32) (n : Nat) (f g : Nat → Int32) :
    rt_Cv l y_Rt_reset b_Rt_reset 1 none ({ frames := 1, cells := 0, slots := 0, locals := 20 } : Room) dC dI [(cC, .int), (cV, .int)] [(h0, .inr (2, [.ref h1, .ref h2, .int rt, .int mk, .int sr, .int sv, .int tk])), (h1, .inr (0, [.int pd, .int ct, .int cg, .int pn])), (h2, .inr (1, [.ref h3, .ref h4, .int (nI n)])), (h3, .inl (cC, 32, .inl f)), (h4, .inl (cV, 32, .inl g))] sz [.ref h0] (fun (u : Int32 × Int32 × Int32 × Int32 × Int32 × Int32 × Int32 × Int32 × Int32 × Nat) => u.1 = 0 ∧ u.2.1 = 0 ∧ u.2.2.1 = 1 ∧ u.2.2.2.1 = 0 ∧ u.2.2.2.2.1 = 0 ∧ u.2.2.2.2.2.1 = 0 ∧ u.2.2.2.2.2.2.1 = 0 ∧ u.2.2.2.2.2.2.2.1 = 0 ∧ u.2.2.2.2.2.2.2.2.1 = 0 ∧ u.2.2.2.2.2.2.2.2.2 = 0) (fun _ => [(cC, .int), (cV, .int)]) (fun u => [(h0, .inr (2, [.ref h1, .ref h2, .int u.1, .int u.2.1, .int u.2.2.1, .int u.2.2.2.1, .int u.2.2.2.2.1])), (h1, .inr (0, [.int u.2.2.2.2.2.1, .int u.2.2.2.2.2.2.1, .int u.2.2.2.2.2.2.2.1, .int u.2.2.2.2.2.2.2.2.1])), (h2, .inr (1, [.ref h3, .ref h4, .int (nI u.2.2.2.2.2.2.2.2.2)])), (h3, .inl (cC, 32, .inl f)), (h4, .inl (cV, 32, .inl g))]) 0 0 := by
  refine rt_metv (by decide) (Nat.le_of_ble_eq_true rfl) ?_
  intro p e s m below meth c_ A ls hx hb hr hml hown hts hlocks hin hP hK hD hN hA hS hl
  have hown : s.vm.findClass R_Rt = some m.cls := hown
  have hl : lv_has ls 1 [(0, .ref h0)] := hl
  refine lv_aload_n hx hb d_Rt_reset_0 rfl (lv_at hl 0 rfl) ?_
  refine va_get (D := (dC, dI)) (ci := 2) (v := .ref h1) (C := R_Rt) (T := F_Rt) (N := 7) hx hb hts i_Rt hown hK hP 0 rfl rfl 0 (by decide) (hts _ m_74) (fun _ h9 => h9) rfl d_Rt_reset_1 ?_
  refine rt_gv (wr := [(h0, .inr (2, [.ref h1, .ref h2, .int rt, .int mk, .int sr, .int sv, .int tk])), (h2, .inr (1, [.ref h3, .ref h4, .int (nI n)])), (h3, .inl (cC, 32, .inl f)), (h4, .inl (cV, 32, .inl g))]) (rt_runV (rest := []) ⟨hx, hb, hml, hown, hts⟩ (c_Tm_reset l dC dI h1 s.heap.size pd ct cg pn) (rt_gV m_70 m_71 m_72 m_11 m_73) hd_Tm_reset ⟨Nat.le_of_ble_eq_true rfl, Nat.le_of_ble_eq_true rfl, rfl, rfl⟩ hP hK hD hN [1] [] (by decide) rfl rfl rfl rfl rfl hl.1 rfl (Nat.le_of_ble_eq_true rfl) d_Rt_reset_4 ⟨Nat.le_of_ble_eq_true rfl, Nat.le_of_ble_eq_true rfl⟩) hP hD hS hA [1] [0, 2, 3, 4] rfl rfl (by decide) (by decide) (fun u_4 H locs hw_4 hP hD hS _ => ?_)
  obtain ⟨pd_4, ct_4, cg_4, pn_4⟩ := u_4
  try dsimp only at hw_4
  obtain ⟨w0_4, w1_4, w2_4, w3_4⟩ := hw_4
  obtain rfl := w0_4.symm
  obtain rfl := w1_4.symm
  obtain rfl := w2_4.symm
  obtain rfl := w3_4.symm
  have hP : va_P (dC, dI) classes [(h0, .inr (2, [.ref h1, .ref h2, .int rt, .int mk, .int sr, .int sv, .int tk])), (h2, .inr (1, [.ref h3, .ref h4, .int (nI n)])), (h3, .inl (cC, 32, .inl f)), (h4, .inl (cV, 32, .inl g)), (h1, .inr (0, [.int 0, .int 0, .int 0, .int 0]))] H := hP
  have hD : va_D A [(h0, .inr (2, [.ref h1, .ref h2, .int rt, .int mk, .int sr, .int sv, .int tk])), (h2, .inr (1, [.ref h3, .ref h4, .int (nI n)])), (h3, .inl (cC, 32, .inl f)), (h4, .inl (cV, 32, .inl g)), (h1, .inr (0, [.int 0, .int 0, .int 0, .int 0]))] := hD
  refine lv_aload_n hx hb d_Rt_reset_7 rfl (lv_at hl 0 rfl) ?_
  refine va_get (D := (dC, dI)) (ci := 2) (v := .ref h2) (C := R_Rt) (T := F_Rt) (N := 7) hx hb hts i_Rt hown hK hP 0 rfl rfl 1 (by decide) (hts _ m_75) (fun _ h9 => h9) rfl d_Rt_reset_8 ?_
  refine lv_iconst (v := 0) hx hb d_Rt_reset_11 (by decide) ?_
  refine rt_topi (nI 0) (nI_0.symm) ?_
  refine va_putN (D := (dC, dI)) (ci := 1) (v := .int (nI 0)) (ty := .int) (C := R_Rw) (T := F_Rw) (N := 3) hx hb hts i_Rw t_Rw t_Rw_ok n_Rw hown hK hP hD hS 1 rfl rfl 2 (by decide) (hN.at 8 rfl rfl) (fun _ h9 => h9) rfl (by decide +kernel) rfl rfl (Nat.le_of_ble_eq_true rfl) d_Rt_reset_12 (fun H locs hP hD hS => ?_)
  have hP : va_P (dC, dI) classes [(h0, .inr (2, [.ref h1, .ref h2, .int rt, .int mk, .int sr, .int sv, .int tk])), (h2, .inr (1, [.ref h3, .ref h4, .int (nI 0)])), (h3, .inl (cC, 32, .inl f)), (h4, .inl (cV, 32, .inl g)), (h1, .inr (0, [.int 0, .int 0, .int 0, .int 0]))] H := hP
  have hD : va_D A [(h0, .inr (2, [.ref h1, .ref h2, .int rt, .int mk, .int sr, .int sv, .int tk])), (h2, .inr (1, [.ref h3, .ref h4, .int (nI 0)])), (h3, .inl (cC, 32, .inl f)), (h4, .inl (cV, 32, .inl g)), (h1, .inr (0, [.int 0, .int 0, .int 0, .int 0]))] := hD
  refine lv_aload_n hx hb d_Rt_reset_15 rfl (lv_at hl 0 rfl) ?_
  refine lv_iconst (v := 0) hx hb d_Rt_reset_16 (by decide) ?_
  refine va_put (D := (dC, dI)) (ci := 2) (v := .int 0) (ty := .int) (C := R_Rt) (T := F_Rt) (N := 7) hx hb hts i_Rt t_Rt t_Rt_ok n_Rt hown hK hP hD hS 0 rfl rfl 2 (by decide) (hts _ m_76) (fun _ h9 => h9) rfl (by decide +kernel) rfl rfl (Nat.le_of_ble_eq_true rfl) d_Rt_reset_17 (fun H locs hP hD hS => ?_)
  have hP : va_P (dC, dI) classes [(h0, .inr (2, [.ref h1, .ref h2, .int 0, .int mk, .int sr, .int sv, .int tk])), (h2, .inr (1, [.ref h3, .ref h4, .int (nI 0)])), (h3, .inl (cC, 32, .inl f)), (h4, .inl (cV, 32, .inl g)), (h1, .inr (0, [.int 0, .int 0, .int 0, .int 0]))] H := hP
  have hD : va_D A [(h0, .inr (2, [.ref h1, .ref h2, .int 0, .int mk, .int sr, .int sv, .int tk])), (h2, .inr (1, [.ref h3, .ref h4, .int (nI 0)])), (h3, .inl (cC, 32, .inl f)), (h4, .inl (cV, 32, .inl g)), (h1, .inr (0, [.int 0, .int 0, .int 0, .int 0]))] := hD
  refine lv_aload_n hx hb d_Rt_reset_20 rfl (lv_at hl 0 rfl) ?_
  refine lv_iconst (v := 0) hx hb d_Rt_reset_21 (by decide) ?_
  refine va_put (D := (dC, dI)) (ci := 2) (v := .int 0) (ty := .int) (C := R_Rt) (T := F_Rt) (N := 7) hx hb hts i_Rt t_Rt t_Rt_ok n_Rt hown hK hP hD hS 0 rfl rfl 3 (by decide) (hts _ m_77) (fun _ h9 => h9) rfl (by decide +kernel) rfl rfl (Nat.le_of_ble_eq_true rfl) d_Rt_reset_22 (fun H locs hP hD hS => ?_)
  have hP : va_P (dC, dI) classes [(h0, .inr (2, [.ref h1, .ref h2, .int 0, .int 0, .int sr, .int sv, .int tk])), (h2, .inr (1, [.ref h3, .ref h4, .int (nI 0)])), (h3, .inl (cC, 32, .inl f)), (h4, .inl (cV, 32, .inl g)), (h1, .inr (0, [.int 0, .int 0, .int 0, .int 0]))] H := hP
  have hD : va_D A [(h0, .inr (2, [.ref h1, .ref h2, .int 0, .int 0, .int sr, .int sv, .int tk])), (h2, .inr (1, [.ref h3, .ref h4, .int (nI 0)])), (h3, .inl (cC, 32, .inl f)), (h4, .inl (cV, 32, .inl g)), (h1, .inr (0, [.int 0, .int 0, .int 0, .int 0]))] := hD
  refine lv_aload_n hx hb d_Rt_reset_25 rfl (lv_at hl 0 rfl) ?_
  refine lv_iconst (v := 1) hx hb d_Rt_reset_26 (by decide) ?_
  refine va_put (D := (dC, dI)) (ci := 2) (v := .int 1) (ty := .int) (C := R_Rt) (T := F_Rt) (N := 7) hx hb hts i_Rt t_Rt t_Rt_ok n_Rt hown hK hP hD hS 0 rfl rfl 4 (by decide) (hts _ m_78) (fun _ h9 => h9) rfl (by decide +kernel) rfl rfl (Nat.le_of_ble_eq_true rfl) d_Rt_reset_27 (fun H locs hP hD hS => ?_)
  have hP : va_P (dC, dI) classes [(h0, .inr (2, [.ref h1, .ref h2, .int 0, .int 0, .int 1, .int sv, .int tk])), (h2, .inr (1, [.ref h3, .ref h4, .int (nI 0)])), (h3, .inl (cC, 32, .inl f)), (h4, .inl (cV, 32, .inl g)), (h1, .inr (0, [.int 0, .int 0, .int 0, .int 0]))] H := hP
  have hD : va_D A [(h0, .inr (2, [.ref h1, .ref h2, .int 0, .int 0, .int 1, .int sv, .int tk])), (h2, .inr (1, [.ref h3, .ref h4, .int (nI 0)])), (h3, .inl (cC, 32, .inl f)), (h4, .inl (cV, 32, .inl g)), (h1, .inr (0, [.int 0, .int 0, .int 0, .int 0]))] := hD
  refine lv_aload_n hx hb d_Rt_reset_30 rfl (lv_at hl 0 rfl) ?_
  refine lv_iconst (v := 0) hx hb d_Rt_reset_31 (by decide) ?_
  refine va_put (D := (dC, dI)) (ci := 2) (v := .int 0) (ty := .int) (C := R_Rt) (T := F_Rt) (N := 7) hx hb hts i_Rt t_Rt t_Rt_ok n_Rt hown hK hP hD hS 0 rfl rfl 5 (by decide) (hts _ m_79) (fun _ h9 => h9) rfl (by decide +kernel) rfl rfl (Nat.le_of_ble_eq_true rfl) d_Rt_reset_32 (fun H locs hP hD hS => ?_)
  have hP : va_P (dC, dI) classes [(h0, .inr (2, [.ref h1, .ref h2, .int 0, .int 0, .int 1, .int 0, .int tk])), (h2, .inr (1, [.ref h3, .ref h4, .int (nI 0)])), (h3, .inl (cC, 32, .inl f)), (h4, .inl (cV, 32, .inl g)), (h1, .inr (0, [.int 0, .int 0, .int 0, .int 0]))] H := hP
  have hD : va_D A [(h0, .inr (2, [.ref h1, .ref h2, .int 0, .int 0, .int 1, .int 0, .int tk])), (h2, .inr (1, [.ref h3, .ref h4, .int (nI 0)])), (h3, .inl (cC, 32, .inl f)), (h4, .inl (cV, 32, .inl g)), (h1, .inr (0, [.int 0, .int 0, .int 0, .int 0]))] := hD
  refine lv_aload_n hx hb d_Rt_reset_35 rfl (lv_at hl 0 rfl) ?_
  refine lv_iconst (v := 0) hx hb d_Rt_reset_36 (by decide) ?_
  refine va_put (D := (dC, dI)) (ci := 2) (v := .int 0) (ty := .int) (C := R_Rt) (T := F_Rt) (N := 7) hx hb hts i_Rt t_Rt t_Rt_ok n_Rt hown hK hP hD hS 0 rfl rfl 6 (by decide) (hts _ m_80) (fun _ h9 => h9) rfl (by decide +kernel) rfl rfl (Nat.le_of_ble_eq_true rfl) d_Rt_reset_37 (fun H locs hP hD hS => ?_)
  have hP : va_P (dC, dI) classes [(h0, .inr (2, [.ref h1, .ref h2, .int 0, .int 0, .int 1, .int 0, .int 0])), (h2, .inr (1, [.ref h3, .ref h4, .int (nI 0)])), (h3, .inl (cC, 32, .inl f)), (h4, .inl (cV, 32, .inl g)), (h1, .inr (0, [.int 0, .int 0, .int 0, .int 0]))] H := hP
  have hD : va_D A [(h0, .inr (2, [.ref h1, .ref h2, .int 0, .int 0, .int 1, .int 0, .int 0])), (h2, .inr (1, [.ref h3, .ref h4, .int (nI 0)])), (h3, .inl (cC, 32, .inl f)), (h4, .inl (cV, 32, .inl g)), (h1, .inr (0, [.int 0, .int 0, .int 0, .int 0]))] := hD
  refine rt_vret hx hb hr hlocks (0, 0, 1, 0, 0, 0, 0, 0, 0, 0) ?_ (hP.sub [0, 4, 1, 2, 3] rfl) hK (hD.sub [0, 4, 1, 2, 3] (by decide) rfl) hS d_Rt_reset_40
  exact ⟨rfl, rfl, rfl, rfl, rfl, rfl, rfl, rfl, rfl, rfl⟩
set_option maxHeartbeats 4000000 in
set_option maxRecDepth 100000 in
theorem c_Rt_is (l : Launch) (dC : Nat → ClassId) (dI : Nat → Nat → Nat) (h0 h1 h2 h3 h4 : Nat) (cC cV : ClassId) (sz : Nat) (rt mk sr sv tk pd ct cg pn : Int32) (n : Nat) (f g : Nat → Int32) (b : Int32) :
    rt_Ci l y_Rt_is b_Rt_is 2 (some .boolean) ({ frames := 0, cells := 0, slots := 0, locals := 0 } : Room) dC dI [(cC, .int), (cV, .int)] [(h0, .inr (2, [.ref h1, .ref h2, .int rt, .int mk, .int sr, .int sv, .int tk])), (h1, .inr (0, [.int pd, .int ct, .int cg, .int pn])), (h2, .inr (1, [.ref h3, .ref h4, .int (nI n)])), (h3, .inl (cC, 32, .inl f)), (h4, .inl (cV, 32, .inl g))] sz [.ref h0, .int b] (fun (r : Int32) (u : Unit) => r = rt_is sr b) (fun _ => [(cC, .int), (cV, .int)]) (fun u => [(h0, .inr (2, [.ref h1, .ref h2, .int rt, .int mk, .int sr, .int sv, .int tk])), (h1, .inr (0, [.int pd, .int ct, .int cg, .int pn])), (h2, .inr (1, [.ref h3, .ref h4, .int (nI n)])), (h3, .inl (cC, 32, .inl f)), (h4, .inl (cV, 32, .inl g))]) 0 0 := by
  refine rt_meti (by decide) (Nat.le_of_ble_eq_true rfl) ?_
  intro p e s m below meth c_ A ls hx hb hr hml hown hts hlocks hin hP hK hD hN hA hS hl
  have hown : s.vm.findClass R_Rt = some m.cls := hown
  have hl : lv_has ls 2 [(0, .ref h0), (1, .int b)] := hl
  refine lv_aload_n hx hb d_Rt_is_0 rfl (lv_at hl 0 rfl) ?_
  refine va_get (D := (dC, dI)) (ci := 2) (v := .int sr) (C := R_Rt) (T := F_Rt) (N := 7) hx hb hts i_Rt hown hK hP 0 rfl rfl 4 (by decide) (hts _ m_78) (fun _ h9 => h9) rfl d_Rt_is_1 ?_
  refine lv_iload_n hx hb d_Rt_is_4 rfl (lv_at hl 1 rfl) ?_
  refine lv_iand hx hb d_Rt_is_5 ?_
  refine lv_if_eq (tgt := 13) hx hb d_Rt_is_6 (by decide) (fun c_6 => ?_) (fun c_6 => ?_)
  · refine lv_iconst (v := 0) hx hb d_Rt_is_13 (by decide) ?_
    refine rt_zret hx hb hr hlocks rfl () ?_ hP hK hD hS d_Rt_is_14
    try dsimp only
    exact by simp only [rt_is, if_pos c_6, eq_self, and_self]
  · refine lv_iconst (v := 1) hx hb d_Rt_is_9 (by decide) ?_
    refine lv_goto (tgt := 14) hx hb d_Rt_is_10 (by decide) ?_
    refine rt_zret hx hb hr hlocks rfl () ?_ hP hK hD hS d_Rt_is_14
    try dsimp only
    exact by simp only [rt_is, if_neg c_6, eq_self, and_self]
set_option maxHeartbeats 4000000 in
set_option maxRecDepth 100000 in
theorem c_Rt_untilTimer (l : Launch) (dC : Nat → ClassId) (dI : Nat → Nat → Nat) (h0 h1 h2 h3 h4 : Nat) (cC cV : ClassId) (sz : Nat) (rt mk sr sv tk pd ct cg pn : Int32) (n : Nat) (f g : Nat → Int32) :
    rt_Cl l y_Rt_untilTimer b_Rt_untilTimer 1 (some .long) ({ frames := 2, cells := 0, slots := 0, locals := 42 } : Room) dC dI [(cC, .int), (cV, .int)] [(h0, .inr (2, [.ref h1, .ref h2, .int rt, .int mk, .int sr, .int sv, .int tk])), (h1, .inr (0, [.int pd, .int ct, .int cg, .int pn])), (h2, .inr (1, [.ref h3, .ref h4, .int (nI n)])), (h3, .inl (cC, 32, .inl f)), (h4, .inl (cV, 32, .inl g))] sz [.ref h0] (fun (r : Int64) (u : Unit) => r = rt_wt sr pd ct cg pn) (fun _ => [(cC, .int), (cV, .int)]) (fun u => [(h0, .inr (2, [.ref h1, .ref h2, .int rt, .int mk, .int sr, .int sv, .int tk])), (h1, .inr (0, [.int pd, .int ct, .int cg, .int pn])), (h2, .inr (1, [.ref h3, .ref h4, .int (nI n)])), (h3, .inl (cC, 32, .inl f)), (h4, .inl (cV, 32, .inl g))]) 0 0 := by
  refine rt_metl (by decide) (Nat.le_of_ble_eq_true rfl) ?_
  intro p e s m below meth c_ A ls hx hb hr hml hown hts hlocks hin hP hK hD hN hA hS hl
  have hown : s.vm.findClass R_Rt = some m.cls := hown
  have hl : lv_has ls 1 [(0, .ref h0)] := hl
  refine lv_aload_n hx hb d_Rt_untilTimer_0 rfl (lv_at hl 0 rfl) ?_
  refine lv_iconst (v := 2) hx hb d_Rt_untilTimer_1 (by decide) ?_
  refine rt_gi (wr := []) (rt_runV (rest := []) ⟨hx, hb, hml, hown, hts⟩ (c_Rt_is l dC dI h0 h1 h2 h3 h4 cC cV s.heap.size rt mk sr sv tk pd ct cg pn n f g 2) (rt_gV m_114 m_116 m_1 m_10 m_117) hd_Rt_is ⟨Nat.le_of_ble_eq_true rfl, Nat.le_of_ble_eq_true rfl, rfl, rfl⟩ hP hK hD hN [0, 1, 2, 3, 4] [0, 1] (by decide) rfl rfl rfl rfl rfl hl.1 rfl (Nat.le_of_ble_eq_true rfl) d_Rt_untilTimer_2 ⟨Nat.le_of_ble_eq_true rfl, Nat.le_of_ble_eq_true rfl⟩) hP hD hS hA [0, 1, 2, 3, 4] [] rfl rfl (by decide) (by decide) (fun r_2 u_2 H locs hw_2 hP hD hS _ => ?_)
  try dsimp only at hw_2
  have w0_2 := hw_2
  obtain rfl := w0_2.symm
  have hP : va_P (dC, dI) classes [(h0, .inr (2, [.ref h1, .ref h2, .int rt, .int mk, .int sr, .int sv, .int tk])), (h1, .inr (0, [.int pd, .int ct, .int cg, .int pn])), (h2, .inr (1, [.ref h3, .ref h4, .int (nI n)])), (h3, .inl (cC, 32, .inl f)), (h4, .inl (cV, 32, .inl g))] H := hP
  have hD : va_D A [(h0, .inr (2, [.ref h1, .ref h2, .int rt, .int mk, .int sr, .int sv, .int tk])), (h1, .inr (0, [.int pd, .int ct, .int cg, .int pn])), (h2, .inr (1, [.ref h3, .ref h4, .int (nI n)])), (h3, .inl (cC, 32, .inl f)), (h4, .inl (cV, 32, .inl g))] := hD
  refine lv_if_eq (tgt := 18) hx hb d_Rt_untilTimer_5 (by decide) (fun c_5 => ?_) (fun c_5 => ?_)
  · rw [rt_is0] at c_5
    refine lv_ldc2 hx hb hown (hts _ m_129) d_Rt_untilTimer_18 ?_
    refine rt_lret hx hb hr hlocks () ?_ hP hK hD hS d_Rt_untilTimer_21
    try dsimp only
    exact by simp only [rt_wt, if_pos c_5, eq_self, and_self]
  · rw [rt_is0] at c_5
    refine lv_aload_n hx hb d_Rt_untilTimer_8 rfl (lv_at hl 0 rfl) ?_
    refine va_get (D := (dC, dI)) (ci := 2) (v := .ref h1) (C := R_Rt) (T := F_Rt) (N := 7) hx hb hts i_Rt hown hK hP 0 rfl rfl 0 (by decide) (hts _ m_74) (fun _ h9 => h9) rfl d_Rt_untilTimer_9 ?_
    refine rt_gl (wr := [(h0, .inr (2, [.ref h1, .ref h2, .int rt, .int mk, .int sr, .int sv, .int tk])), (h2, .inr (1, [.ref h3, .ref h4, .int (nI n)])), (h3, .inl (cC, 32, .inl f)), (h4, .inl (cV, 32, .inl g))]) (rt_runV (rest := []) ⟨hx, hb, hml, hown, hts⟩ (c_Tm_until l dC dI h1 H.size pd ct cg pn) (rt_gV m_118 m_119 m_120 m_11 m_121) hd_Tm_until ⟨Nat.le_of_ble_eq_true rfl, Nat.le_of_ble_eq_true rfl, rfl, rfl⟩ hP hK hD hN [1] [] (by decide) rfl rfl rfl rfl rfl hl.1 rfl (Nat.le_of_ble_eq_true rfl) d_Rt_untilTimer_12 ⟨Nat.le_of_ble_eq_true rfl, Nat.le_of_ble_eq_true rfl⟩) hP hD hS hA [1] [0, 2, 3, 4] rfl rfl (by decide) (by decide) (fun r_12 u_12 H locs hw_12 hP hD hS _ => ?_)
    try dsimp only at hw_12
    have w0_12 := hw_12
    obtain rfl := w0_12.symm
    have hP : va_P (dC, dI) classes [(h0, .inr (2, [.ref h1, .ref h2, .int rt, .int mk, .int sr, .int sv, .int tk])), (h2, .inr (1, [.ref h3, .ref h4, .int (nI n)])), (h3, .inl (cC, 32, .inl f)), (h4, .inl (cV, 32, .inl g)), (h1, .inr (0, [.int pd, .int ct, .int cg, .int pn]))] H := hP
    have hD : va_D A [(h0, .inr (2, [.ref h1, .ref h2, .int rt, .int mk, .int sr, .int sv, .int tk])), (h2, .inr (1, [.ref h3, .ref h4, .int (nI n)])), (h3, .inl (cC, 32, .inl f)), (h4, .inl (cV, 32, .inl g)), (h1, .inr (0, [.int pd, .int ct, .int cg, .int pn]))] := hD
    refine lv_goto (tgt := 21) hx hb d_Rt_untilTimer_15 (by decide) ?_
    refine rt_lret hx hb hr hlocks () ?_ (hP.sub [0, 4, 1, 2, 3] rfl) hK (hD.sub [0, 4, 1, 2, 3] (by decide) rfl) hS d_Rt_untilTimer_21
    try dsimp only
    exact by simp only [rt_wt, if_neg c_5, eq_self, and_self]
set_option maxHeartbeats 4000000 in
set_option maxRecDepth 100000 in
theorem c_Rt_untilLines (l : Launch) (dC : Nat → ClassId) (dI : Nat → Nat → Nat) (h0 h1 h2 h3 h4 : Nat) (cC cV : ClassId) (sz : Nat) (rt mk sr sv tk pd ct cg pn : Int32) (n : Nat) (f g : Nat → Int32) (c k : Nat) (hn : n ≤ 32) (hc : rt_cut f n rt c) (hk : rt_nx g mk n c k) :
    rt_Cl l y_Rt_untilLines b_Rt_untilLines 1 (some .long) ({ frames := 2, cells := 0, slots := 0, locals := 47 } : Room) dC dI [(cC, .int), (cV, .int)] [(h0, .inr (2, [.ref h1, .ref h2, .int rt, .int mk, .int sr, .int sv, .int tk])), (h1, .inr (0, [.int pd, .int ct, .int cg, .int pn])), (h2, .inr (1, [.ref h3, .ref h4, .int (nI n)])), (h3, .inl (cC, 32, .inl f)), (h4, .inl (cV, 32, .inl g))] sz [.ref h0] (fun (r : Int64) (u : Unit) => r = rt_wl sr rt mk n f g c k) (fun _ => [(cC, .int), (cV, .int)]) (fun u => [(h0, .inr (2, [.ref h1, .ref h2, .int rt, .int mk, .int sr, .int sv, .int tk])), (h1, .inr (0, [.int pd, .int ct, .int cg, .int pn])), (h2, .inr (1, [.ref h3, .ref h4, .int (nI n)])), (h3, .inl (cC, 32, .inl f)), (h4, .inl (cV, 32, .inl g))]) 0 0 := by
  refine rt_metl (by decide) (Nat.le_of_ble_eq_true rfl) ?_
  intro p e s m below meth c_ A ls hx hb hr hml hown hts hlocks hin hP hK hD hN hA hS hl
  have hown : s.vm.findClass R_Rt = some m.cls := hown
  have hl : lv_has ls 1 [(0, .ref h0)] := hl
  refine lv_aload_n hx hb d_Rt_untilLines_0 rfl (lv_at hl 0 rfl) ?_
  refine lv_iconst (v := 4) hx hb d_Rt_untilLines_1 (by decide) ?_
  refine rt_gi (wr := []) (rt_runV (rest := []) ⟨hx, hb, hml, hown, hts⟩ (c_Rt_is l dC dI h0 h1 h2 h3 h4 cC cV s.heap.size rt mk sr sv tk pd ct cg pn n f g 4) (rt_gV m_114 m_116 m_1 m_10 m_117) hd_Rt_is ⟨Nat.le_of_ble_eq_true rfl, Nat.le_of_ble_eq_true rfl, rfl, rfl⟩ hP hK hD hN [0, 1, 2, 3, 4] [0, 1] (by decide) rfl rfl rfl rfl rfl hl.1 rfl (Nat.le_of_ble_eq_true rfl) d_Rt_untilLines_2 ⟨Nat.le_of_ble_eq_true rfl, Nat.le_of_ble_eq_true rfl⟩) hP hD hS hA [0, 1, 2, 3, 4] [] rfl rfl (by decide) (by decide) (fun r_2 u_2 H locs hw_2 hP hD hS _ => ?_)
  try dsimp only at hw_2
  have w0_2 := hw_2
  obtain rfl := w0_2.symm
  have hP : va_P (dC, dI) classes [(h0, .inr (2, [.ref h1, .ref h2, .int rt, .int mk, .int sr, .int sv, .int tk])), (h1, .inr (0, [.int pd, .int ct, .int cg, .int pn])), (h2, .inr (1, [.ref h3, .ref h4, .int (nI n)])), (h3, .inl (cC, 32, .inl f)), (h4, .inl (cV, 32, .inl g))] H := hP
  have hD : va_D A [(h0, .inr (2, [.ref h1, .ref h2, .int rt, .int mk, .int sr, .int sv, .int tk])), (h1, .inr (0, [.int pd, .int ct, .int cg, .int pn])), (h2, .inr (1, [.ref h3, .ref h4, .int (nI n)])), (h3, .inl (cC, 32, .inl f)), (h4, .inl (cV, 32, .inl g))] := hD
  refine lv_if_eq (tgt := 26) hx hb d_Rt_untilLines_5 (by decide) (fun c_5 => ?_) (fun c_5 => ?_)
  · rw [rt_is0] at c_5
    refine lv_ldc2 hx hb hown (hts _ m_129) d_Rt_untilLines_26 ?_
    refine rt_lret hx hb hr hlocks () ?_ hP hK hD hS d_Rt_untilLines_29
    try dsimp only
    exact by simp only [rt_wl, if_pos c_5, eq_self, and_self]
  · rw [rt_is0] at c_5
    refine lv_aload_n hx hb d_Rt_untilLines_8 rfl (lv_at hl 0 rfl) ?_
    refine va_get (D := (dC, dI)) (ci := 2) (v := .ref h2) (C := R_Rt) (T := F_Rt) (N := 7) hx hb hts i_Rt hown hK hP 0 rfl rfl 1 (by decide) (hts _ m_75) (fun _ h9 => h9) rfl d_Rt_untilLines_9 ?_
    refine lv_aload_n hx hb d_Rt_untilLines_12 rfl (lv_at hl 0 rfl) ?_
    refine va_get (D := (dC, dI)) (ci := 2) (v := .int rt) (C := R_Rt) (T := F_Rt) (N := 7) hx hb hts i_Rt hown hK hP 0 rfl rfl 2 (by decide) (hts _ m_76) (fun _ h9 => h9) rfl d_Rt_untilLines_13 ?_
    refine lv_aload_n hx hb d_Rt_untilLines_16 rfl (lv_at hl 0 rfl) ?_
    refine va_get (D := (dC, dI)) (ci := 2) (v := .int mk) (C := R_Rt) (T := F_Rt) (N := 7) hx hb hts i_Rt hown hK hP 0 rfl rfl 3 (by decide) (hts _ m_77) (fun _ h9 => h9) rfl d_Rt_untilLines_17 ?_
    refine rt_gl (wr := [(h0, .inr (2, [.ref h1, .ref h2, .int rt, .int mk, .int sr, .int sv, .int tk])), (h1, .inr (0, [.int pd, .int ct, .int cg, .int pn]))]) (rt_runV (rest := []) ⟨hx, hb, hml, hown, hts⟩ (c_Rw_until l dC dI h2 h3 h4 cC cV H.size n f g rt mk c k hn hc hk) (rt_gV m_134 m_135 m_136 m_12 m_137) hd_Rw_until ⟨Nat.le_of_ble_eq_true rfl, Nat.le_of_ble_eq_true rfl, rfl, rfl⟩ hP hK hD hN [2, 3, 4] [0, 1] (by decide) rfl rfl rfl rfl rfl hl.1 rfl (Nat.le_of_ble_eq_true rfl) d_Rt_untilLines_20 ⟨Nat.le_of_ble_eq_true rfl, Nat.le_of_ble_eq_true rfl⟩) hP hD hS hA [2, 3, 4] [0, 1] rfl rfl (by decide) (by decide) (fun r_20 u_20 H locs hw_20 hP hD hS _ => ?_)
    try dsimp only at hw_20
    have w0_20 := hw_20
    obtain rfl := w0_20.symm
    have hP : va_P (dC, dI) classes [(h0, .inr (2, [.ref h1, .ref h2, .int rt, .int mk, .int sr, .int sv, .int tk])), (h1, .inr (0, [.int pd, .int ct, .int cg, .int pn])), (h2, .inr (1, [.ref h3, .ref h4, .int (nI n)])), (h3, .inl (cC, 32, .inl f)), (h4, .inl (cV, 32, .inl g))] H := hP
    have hD : va_D A [(h0, .inr (2, [.ref h1, .ref h2, .int rt, .int mk, .int sr, .int sv, .int tk])), (h1, .inr (0, [.int pd, .int ct, .int cg, .int pn])), (h2, .inr (1, [.ref h3, .ref h4, .int (nI n)])), (h3, .inl (cC, 32, .inl f)), (h4, .inl (cV, 32, .inl g))] := hD
    refine lv_goto (tgt := 29) hx hb d_Rt_untilLines_23 (by decide) ?_
    refine rt_lret hx hb hr hlocks () ?_ hP hK hD hS d_Rt_untilLines_29
    try dsimp only
    exact by simp only [rt_wl, if_neg c_5, eq_self, and_self]
set_option maxHeartbeats 4000000 in
set_option maxRecDepth 100000 in
theorem c_Rt_due (l : Launch) (dC : Nat → ClassId) (dI : Nat → Nat → Nat) (h0 h1 h2 h3 h4 : Nat) (cC cV : ClassId) (sz : Nat) (rt mk sr sv tk pd ct cg pn : Int32) (n : Nat) (f g : Nat → Int32) (c k : Nat) (hn : n ≤ 32) (hc : rt_cut f n rt c) (hk : rt_nx g mk n c k) :
    rt_Ci l y_Rt_due b_Rt_due 1 (some .int) ({ frames := 3, cells := 0, slots := 0, locals := 67 } : Room) dC dI [(cC, .int), (cV, .int)] [(h0, .inr (2, [.ref h1, .ref h2, .int rt, .int mk, .int sr, .int sv, .int tk])), (h1, .inr (0, [.int pd, .int ct, .int cg, .int pn])), (h2, .inr (1, [.ref h3, .ref h4, .int (nI n)])), (h3, .inl (cC, 32, .inl f)), (h4, .inl (cV, 32, .inl g))] sz [.ref h0] (fun (r : Int32) (u : Unit) => r = rt_dm sr pn mk (rt_lv g c)) (fun _ => [(cC, .int), (cV, .int)]) (fun u => [(h0, .inr (2, [.ref h1, .ref h2, .int rt, .int mk, .int sr, .int sv, .int tk])), (h1, .inr (0, [.int pd, .int ct, .int cg, .int pn])), (h2, .inr (1, [.ref h3, .ref h4, .int (nI n)])), (h3, .inl (cC, 32, .inl f)), (h4, .inl (cV, 32, .inl g))]) 0 0 := by
  refine rt_meti (by decide) (Nat.le_of_ble_eq_true rfl) ?_
  intro p e s m below meth c_ A ls hx hb hr hml hown hts hlocks hin hP hK hD hN hA hS hl
  have hown : s.vm.findClass R_Rt = some m.cls := hown
  have hl : lv_has ls 1 [(0, .ref h0)] := hl
  refine lv_aload_n hx hb d_Rt_due_0 rfl (lv_at hl 0 rfl) ?_
  refine rt_gl (wr := []) (rt_runV (rest := []) ⟨hx, hb, hml, hown, hts⟩ (c_Rt_untilTimer l dC dI h0 h1 h2 h3 h4 cC cV s.heap.size rt mk sr sv tk pd ct cg pn n f g) (rt_gV m_110 m_112 m_0 m_10 m_113) hd_Rt_untilTimer ⟨Nat.le_of_ble_eq_true rfl, Nat.le_of_ble_eq_true rfl, rfl, rfl⟩ hP hK hD hN [0, 1, 2, 3, 4] [0, 1] (by decide) rfl rfl rfl rfl rfl hl.1 rfl (Nat.le_of_ble_eq_true rfl) d_Rt_due_1 ⟨Nat.le_of_ble_eq_true rfl, Nat.le_of_ble_eq_true rfl⟩) hP hD hS hA [0, 1, 2, 3, 4] [] rfl rfl (by decide) (by decide) (fun r_1 u_1 H locs hw_1 hP hD hS _ => ?_)
  try dsimp only at hw_1
  have w0_1 := hw_1
  obtain rfl := w0_1.symm
  have hP : va_P (dC, dI) classes [(h0, .inr (2, [.ref h1, .ref h2, .int rt, .int mk, .int sr, .int sv, .int tk])), (h1, .inr (0, [.int pd, .int ct, .int cg, .int pn])), (h2, .inr (1, [.ref h3, .ref h4, .int (nI n)])), (h3, .inl (cC, 32, .inl f)), (h4, .inl (cV, 32, .inl g))] H := hP
  have hD : va_D A [(h0, .inr (2, [.ref h1, .ref h2, .int rt, .int mk, .int sr, .int sv, .int tk])), (h1, .inr (0, [.int pd, .int ct, .int cg, .int pn])), (h2, .inr (1, [.ref h3, .ref h4, .int (nI n)])), (h3, .inl (cC, 32, .inl f)), (h4, .inl (cV, 32, .inl g))] := hD
  refine lv_lconst (v := 0) hx hb d_Rt_due_4 (by decide) ?_
  refine W.lcmp hx hb d_Rt_due_5 ?_
  refine lv_if_ne (tgt := 13) hx hb d_Rt_due_6 (by decide) (fun c_6 => ?_) (fun c_6 => ?_)
  · rw [lg_cmp_eq] at c_6
    rw [rt_wt0] at c_6
    refine lv_aload_n hx hb d_Rt_due_13 rfl (lv_at hl 0 rfl) ?_
    refine rt_gl (wr := []) (rt_runV (rest := []) ⟨hx, hb, hml, hown, hts⟩ (c_Rt_untilLines l dC dI h0 h1 h2 h3 h4 cC cV H.size rt mk sr sv tk pd ct cg pn n f g c k hn hc hk) (rt_gV m_130 m_132 m_3 m_10 m_133) hd_Rt_untilLines ⟨Nat.le_of_ble_eq_true rfl, Nat.le_of_ble_eq_true rfl, rfl, rfl⟩ hP hK hD hN [0, 1, 2, 3, 4] [0, 1] (by decide) rfl rfl rfl rfl rfl hl.1 rfl (Nat.le_of_ble_eq_true rfl) d_Rt_due_14 ⟨Nat.le_of_ble_eq_true rfl, Nat.le_of_ble_eq_true rfl⟩) hP hD hS hA [0, 1, 2, 3, 4] [] rfl rfl (by decide) (by decide) (fun r_14 u_14 H locs hw_14 hP hD hS _ => ?_)
    try dsimp only at hw_14
    have w0_14 := hw_14
    obtain rfl := w0_14.symm
    have hP : va_P (dC, dI) classes [(h0, .inr (2, [.ref h1, .ref h2, .int rt, .int mk, .int sr, .int sv, .int tk])), (h1, .inr (0, [.int pd, .int ct, .int cg, .int pn])), (h2, .inr (1, [.ref h3, .ref h4, .int (nI n)])), (h3, .inl (cC, 32, .inl f)), (h4, .inl (cV, 32, .inl g))] H := hP
    have hD : va_D A [(h0, .inr (2, [.ref h1, .ref h2, .int rt, .int mk, .int sr, .int sv, .int tk])), (h1, .inr (0, [.int pd, .int ct, .int cg, .int pn])), (h2, .inr (1, [.ref h3, .ref h4, .int (nI n)])), (h3, .inl (cC, 32, .inl f)), (h4, .inl (cV, 32, .inl g))] := hD
    refine lv_lconst (v := 0) hx hb d_Rt_due_17 (by decide) ?_
    refine W.lcmp hx hb d_Rt_due_18 ?_
    refine lv_if_ne (tgt := 27) hx hb d_Rt_due_19 (by decide) (fun c_19 => ?_) (fun c_19 => ?_)
    · rw [lg_cmp_eq] at c_19
      rw [rt_wl0 hc hk] at c_19
      refine lv_iconst (v := 0) hx hb d_Rt_due_27 (by decide) ?_
      refine rt_iret hx hb hr hlocks () ?_ hP hK hD hS d_Rt_due_28
      try dsimp only
      exact by simp only [rt_dm, if_neg c_6, if_neg c_19, eq_self, and_self]
    · rw [lg_cmp_eq] at c_19
      rw [rt_wl0 hc hk] at c_19
      refine lv_bipush (v := 8) hx hb d_Rt_due_22 (by decide) ?_
      refine lv_goto (tgt := 28) hx hb d_Rt_due_24 (by decide) ?_
      refine rt_iret hx hb hr hlocks () ?_ hP hK hD hS d_Rt_due_28
      try dsimp only
      exact by simp only [rt_dm, if_neg c_6, if_pos c_19, eq_self, and_self]
  · rw [lg_cmp_eq] at c_6
    rw [rt_wt0] at c_6
    refine lv_iconst (v := 5) hx hb d_Rt_due_9 (by decide) ?_
    refine lv_goto (tgt := 28) hx hb d_Rt_due_10 (by decide) ?_
    refine rt_iret hx hb hr hlocks () ?_ hP hK hD hS d_Rt_due_28
    try dsimp only
    exact by simp only [rt_dm, if_pos c_6, eq_self, and_self]
set_option maxHeartbeats 4000000 in
set_option maxRecDepth 100000 in
theorem c_Rt_entry (l : Launch) (dC : Nat → ClassId) (dI : Nat → Nat → Nat) (h0 h1 h2 h3 h4 : Nat) (cC cV : ClassId) (sz : Nat) (rt mk sr sv tk pd ct cg pn : Int32) (n : Nat) (f g : Nat → Int32) (a : Int32) (b : Int32) (hn : n ≤ 32) :
    rt_Ci l y_Rt_entry b_Rt_entry 3 (some .boolean) ({ frames := 1, cells := 0, slots := 0, locals := 22 } : Room) dC dI [(cC, .int), (cV, .int)] [(h0, .inr (2, [.ref h1, .ref h2, .int rt, .int mk, .int sr, .int sv, .int tk])), (h1, .inr (0, [.int pd, .int ct, .int cg, .int pn])), (h2, .inr (1, [.ref h3, .ref h4, .int (nI n)])), (h3, .inl (cC, 32, .inl f)), (h4, .inl (cV, 32, .inl g))] sz [.ref h0, .int a, .int b] (fun (r : Int32) (u : Nat × (Nat → Int32) × (Nat → Int32)) => r = rt_er f n a ∧ u.1 = rt_en f n a ∧ u.2.1 = rt_ef f n a ∧ u.2.2 = rt_eg f g n a b) (fun _ => [(cC, .int), (cV, .int)]) (fun u => [(h0, .inr (2, [.ref h1, .ref h2, .int rt, .int mk, .int sr, .int sv, .int tk])), (h1, .inr (0, [.int pd, .int ct, .int cg, .int pn])), (h2, .inr (1, [.ref h3, .ref h4, .int (nI u.1)])), (h3, .inl (cC, 32, .inl u.2.1)), (h4, .inl (cV, 32, .inl u.2.2))]) 0 0 := by
  refine rt_meti (by decide) (Nat.le_of_ble_eq_true rfl) ?_
  intro p e s m below meth c_ A ls hx hb hr hml hown hts hlocks hin hP hK hD hN hA hS hl
  have hown : s.vm.findClass R_Rt = some m.cls := hown
  have hl : lv_has ls 3 [(0, .ref h0), (1, .int a), (2, .int b)] := hl
  refine lv_aload_n hx hb d_Rt_entry_0 rfl (lv_at hl 0 rfl) ?_
  refine va_get (D := (dC, dI)) (ci := 2) (v := .ref h2) (C := R_Rt) (T := F_Rt) (N := 7) hx hb hts i_Rt hown hK hP 0 rfl rfl 1 (by decide) (hts _ m_75) (fun _ h9 => h9) rfl d_Rt_entry_1 ?_
  refine lv_iload_n hx hb d_Rt_entry_4 rfl (lv_at hl 1 rfl) ?_
  refine lv_iload_n hx hb d_Rt_entry_5 rfl (lv_at hl 2 rfl) ?_
  refine rt_gi (wr := [(h0, .inr (2, [.ref h1, .ref h2, .int rt, .int mk, .int sr, .int sv, .int tk])), (h1, .inr (0, [.int pd, .int ct, .int cg, .int pn]))]) (rt_runV (rest := []) ⟨hx, hb, hml, hown, hts⟩ (c_Rw_add l dC dI h2 h3 h4 cC cV s.heap.size n f g a b hn) (rt_gV m_101 m_102 m_103 m_12 m_104) hd_Rw_add ⟨Nat.le_of_ble_eq_true rfl, Nat.le_of_ble_eq_true rfl, rfl, rfl⟩ hP hK hD hN [2, 3, 4] [0, 1] (by decide) rfl rfl rfl rfl rfl hl.1 rfl (Nat.le_of_ble_eq_true rfl) d_Rt_entry_6 ⟨Nat.le_of_ble_eq_true rfl, Nat.le_of_ble_eq_true rfl⟩) hP hD hS hA [2, 3, 4] [0, 1] rfl rfl (by decide) (by decide) (fun r_6 u_6 H locs hw_6 hP hD hS _ => ?_)
  obtain ⟨n_6, f_6, g_6⟩ := u_6
  try dsimp only at hw_6
  obtain ⟨w0_6, w1_6, w2_6, w3_6⟩ := hw_6
  obtain rfl := w0_6.symm
  obtain rfl := w1_6.symm
  obtain rfl := w2_6.symm
  obtain rfl := w3_6.symm
  have hP : va_P (dC, dI) classes [(h0, .inr (2, [.ref h1, .ref h2, .int rt, .int mk, .int sr, .int sv, .int tk])), (h1, .inr (0, [.int pd, .int ct, .int cg, .int pn])), (h2, .inr (1, [.ref h3, .ref h4, .int (nI (rt_en f n a))])), (h3, .inl (cC, 32, .inl (rt_ef f n a))), (h4, .inl (cV, 32, .inl (rt_eg f g n a b)))] H := hP
  have hD : va_D A [(h0, .inr (2, [.ref h1, .ref h2, .int rt, .int mk, .int sr, .int sv, .int tk])), (h1, .inr (0, [.int pd, .int ct, .int cg, .int pn])), (h2, .inr (1, [.ref h3, .ref h4, .int (nI (rt_en f n a))])), (h3, .inl (cC, 32, .inl (rt_ef f n a))), (h4, .inl (cV, 32, .inl (rt_eg f g n a b)))] := hD
  refine rt_zret hx hb hr hlocks (rt_ern f n a) ((rt_en f n a), rt_ef f n a, rt_eg f g n a b) ?_ hP hK hD hS d_Rt_entry_9
  exact ⟨rfl, rfl, rfl, rfl⟩
set_option maxHeartbeats 4000000 in
set_option maxRecDepth 100000 in
theorem c_Rt_steps (l : Launch) (dC : Nat → ClassId) (dI : Nat → Nat → Nat) (h0 h1 h2 h3 h4 : Nat) (cC cV : ClassId) (sz : Nat) (rt mk sr sv tk pd ct cg pn : Int32) (n : Nat) (f g : Nat → Int32) (a : Int32) (c k : Nat) (hn : n ≤ 32) (hc : rt_cut f n rt c) (hk : rt_nx g mk n c k) :
    rt_Ci l y_Rt_steps b_Rt_steps 3 (some .int) ({ frames := 3, cells := 0, slots := 0, locals := 67 } : Room) dC dI [(cC, .int), (cV, .int)] [(h0, .inr (2, [.ref h1, .ref h2, .int rt, .int mk, .int sr, .int sv, .int tk])), (h1, .inr (0, [.int pd, .int ct, .int cg, .int pn])), (h2, .inr (1, [.ref h3, .ref h4, .int (nI n)])), (h3, .inl (cC, 32, .inl f)), (h4, .inl (cV, 32, .inl g))] sz [.ref h0, .int a] (fun (r : Int32) (u : Int32 × Int32 × Int32) => r = rt_s0 rt a (rt_w sr pd ct cg pn rt mk n f g c k) ∧ u.1 = rt_s1 rt a (rt_w sr pd ct cg pn rt mk n f g c k) ∧ u.2.1 = rt_s2 rt a pd ct cg (rt_w sr pd ct cg pn rt mk n f g c k) ∧ u.2.2 = rt_s3 rt a pd ct cg pn (rt_w sr pd ct cg pn rt mk n f g c k)) (fun _ => [(cC, .int), (cV, .int)]) (fun u => [(h0, .inr (2, [.ref h1, .ref h2, .int u.1, .int mk, .int sr, .int sv, .int tk])), (h1, .inr (0, [.int pd, .int u.2.1, .int cg, .int u.2.2])), (h2, .inr (1, [.ref h3, .ref h4, .int (nI n)])), (h3, .inl (cC, 32, .inl f)), (h4, .inl (cV, 32, .inl g))]) 0 0 := by
  refine rt_meti (by decide) (Nat.le_of_ble_eq_true rfl) ?_
  intro p e s m below meth c_ A ls hx hb hr hml hown hts hlocks hin hP hK hD hN hA hS hl
  have hown : s.vm.findClass R_Rt = some m.cls := hown
  have hl : lv_has ls 3 [(0, .ref h0), (1, .int a)] := hl
  refine lv_iload_n hx hb d_Rt_steps_0 rfl (lv_at hl 1 rfl) ?_
  refine lv_iconst (v := 1) hx hb d_Rt_steps_1 (by decide) ?_
  refine lv_icmp_lt (tgt := 27) hx hb d_Rt_steps_2 (by decide) (fun c_2 => ?_) (fun c_2 => ?_)
  · refine lv_iconst (v := (-1)) hx hb d_Rt_steps_27 (by decide) ?_
    refine rt_iret hx hb hr hlocks (rt, ct, pn) ?_ hP hK hD hS d_Rt_steps_28
    try dsimp only
    exact by simp [rt_s0, rt_s1, rt_s2, rt_s3, rt_bad, c_2]
  · refine lv_iload_n hx hb d_Rt_steps_5 rfl (lv_at hl 1 rfl) ?_
    refine lv_sipush (v := 20000) hx hb d_Rt_steps_6 (by decide) ?_
    refine lv_icmp_gt (tgt := 27) hx hb d_Rt_steps_9 (by decide) (fun c_9 => ?_) (fun c_9 => ?_)
    · refine lv_iconst (v := (-1)) hx hb d_Rt_steps_27 (by decide) ?_
      refine rt_iret hx hb hr hlocks (rt, ct, pn) ?_ hP hK hD hS d_Rt_steps_28
      try dsimp only
      exact by simp [rt_s0, rt_s1, rt_s2, rt_s3, rt_bad, c_2, c_9]
    · refine lv_aload_n hx hb d_Rt_steps_12 rfl (lv_at hl 0 rfl) ?_
      refine va_get (D := (dC, dI)) (ci := 2) (v := .int rt) (C := R_Rt) (T := F_Rt) (N := 7) hx hb hts i_Rt hown hK hP 0 rfl rfl 2 (by decide) (hts _ m_76) (fun _ h9 => h9) rfl d_Rt_steps_13 ?_
      refine lv_i2l (v := rt.toInt64) hx hb d_Rt_steps_16 rfl ?_
      refine lv_iload_n hx hb d_Rt_steps_17 rfl (lv_at hl 1 rfl) ?_
      refine lv_i2l (v := a.toInt64) hx hb d_Rt_steps_18 rfl ?_
      refine lv_ladd hx hb d_Rt_steps_19 ?_
      refine lv_ldc2 hx hb hown (hts _ m_109) d_Rt_steps_20 ?_
      refine W.lcmp hx hb d_Rt_steps_23 ?_
      refine lv_if_le (tgt := 29) hx hb d_Rt_steps_24 (by decide) (fun c_24 => ?_) (fun c_24 => ?_)
      · rw [lg_cmp_le] at c_24
        refine lv_iload_n hx hb d_Rt_steps_29 rfl (lv_at hl 1 rfl) ?_
        refine lv_i2l (v := a.toInt64) hx hb d_Rt_steps_30 rfl ?_
        refine lv_aload_n hx hb d_Rt_steps_31 rfl (lv_at hl 0 rfl) ?_
        refine rt_gl (wr := []) (rt_runV (rest := [.long a.toInt64]) ⟨hx, hb, hml, hown, hts⟩ (c_Rt_untilTimer l dC dI h0 h1 h2 h3 h4 cC cV s.heap.size rt mk sr sv tk pd ct cg pn n f g) (rt_gV m_110 m_112 m_0 m_10 m_113) hd_Rt_untilTimer ⟨Nat.le_of_ble_eq_true rfl, Nat.le_of_ble_eq_true rfl, rfl, rfl⟩ hP hK hD hN [0, 1, 2, 3, 4] [0, 1] (by decide) rfl rfl rfl rfl rfl hl.1 rfl (Nat.le_of_ble_eq_true rfl) d_Rt_steps_32 ⟨Nat.le_of_ble_eq_true rfl, Nat.le_of_ble_eq_true rfl⟩) hP hD hS hA [0, 1, 2, 3, 4] [] rfl rfl (by decide) (by decide) (fun r_32 u_32 H locs hw_32 hP hD hS _ => ?_)
        try dsimp only at hw_32
        have w0_32 := hw_32
        obtain rfl := w0_32.symm
        have hP : va_P (dC, dI) classes [(h0, .inr (2, [.ref h1, .ref h2, .int rt, .int mk, .int sr, .int sv, .int tk])), (h1, .inr (0, [.int pd, .int ct, .int cg, .int pn])), (h2, .inr (1, [.ref h3, .ref h4, .int (nI n)])), (h3, .inl (cC, 32, .inl f)), (h4, .inl (cV, 32, .inl g))] H := hP
        have hD : va_D A [(h0, .inr (2, [.ref h1, .ref h2, .int rt, .int mk, .int sr, .int sv, .int tk])), (h1, .inr (0, [.int pd, .int ct, .int cg, .int pn])), (h2, .inr (1, [.ref h3, .ref h4, .int (nI n)])), (h3, .inl (cC, 32, .inl f)), (h4, .inl (cV, 32, .inl g))] := hD
        refine lv_aload_n hx hb d_Rt_steps_35 rfl (lv_at hl 0 rfl) ?_
        refine rt_gl (wr := []) (rt_runV (rest := [.long (rt_wt sr pd ct cg pn), .long a.toInt64]) ⟨hx, hb, hml, hown, hts⟩ (c_Rt_untilLines l dC dI h0 h1 h2 h3 h4 cC cV H.size rt mk sr sv tk pd ct cg pn n f g c k hn hc hk) (rt_gV m_130 m_132 m_3 m_10 m_133) hd_Rt_untilLines ⟨Nat.le_of_ble_eq_true rfl, Nat.le_of_ble_eq_true rfl, rfl, rfl⟩ hP hK hD hN [0, 1, 2, 3, 4] [0, 1] (by decide) rfl rfl rfl rfl rfl hl.1 rfl (Nat.le_of_ble_eq_true rfl) d_Rt_steps_36 ⟨Nat.le_of_ble_eq_true rfl, Nat.le_of_ble_eq_true rfl⟩) hP hD hS hA [0, 1, 2, 3, 4] [] rfl rfl (by decide) (by decide) (fun r_36 u_36 H locs hw_36 hP hD hS _ => ?_)
        try dsimp only at hw_36
        have w0_36 := hw_36
        obtain rfl := w0_36.symm
        have hP : va_P (dC, dI) classes [(h0, .inr (2, [.ref h1, .ref h2, .int rt, .int mk, .int sr, .int sv, .int tk])), (h1, .inr (0, [.int pd, .int ct, .int cg, .int pn])), (h2, .inr (1, [.ref h3, .ref h4, .int (nI n)])), (h3, .inl (cC, 32, .inl f)), (h4, .inl (cV, 32, .inl g))] H := hP
        have hD : va_D A [(h0, .inr (2, [.ref h1, .ref h2, .int rt, .int mk, .int sr, .int sv, .int tk])), (h1, .inr (0, [.int pd, .int ct, .int cg, .int pn])), (h2, .inr (1, [.ref h3, .ref h4, .int (nI n)])), (h3, .inl (cC, 32, .inl f)), (h4, .inl (cV, 32, .inl g))] := hD
        refine va_mmin_long hx hb (hml.trans hl.1.symm) hown (hts _ m_143) (hts _ m_144) (hts _ m_14) (hts _ m_145) (Nat.le_of_ble_eq_true rfl) (Nat.le_of_ble_eq_true rfl) (Nat.le_of_ble_eq_true rfl) (Nat.le_of_ble_eq_true rfl) d_Rt_steps_39 ?_
        refine rt_topl (rt_mn (rt_wt sr pd ct cg pn) (rt_wl sr rt mk n f g c k)) rfl ?_
        refine va_mmin_long hx hb (hml.trans hl.1.symm) hown (hts _ m_143) (hts _ m_144) (hts _ m_14) (hts _ m_145) (Nat.le_of_ble_eq_true rfl) (Nat.le_of_ble_eq_true rfl) (Nat.le_of_ble_eq_true rfl) (Nat.le_of_ble_eq_true rfl) d_Rt_steps_42 ?_
        refine rt_topl (rt_mn a.toInt64 (rt_mn (rt_wt sr pd ct cg pn) (rt_wl sr rt mk n f g c k))) rfl ?_
        refine lv_l2i (v := (rt_mn a.toInt64 (rt_mn (rt_wt sr pd ct cg pn) (rt_wl sr rt mk n f g c k))).toInt32) hx hb d_Rt_steps_45 rfl ?_
        refine rt_topi (rt_cn a (rt_w sr pd ct cg pn rt mk n f g c k)) (rfl) ?_
        refine lv_istore_n (lv' := [(2, .int (rt_cn a (rt_w sr pd ct cg pn rt mk n f g c k))), (0, .ref h0), (1, .int a)]) hx hb d_Rt_steps_46 rfl hl (by decide) rfl (fun ls hl => ?_)
        refine lv_aload_n hx hb d_Rt_steps_47 rfl (lv_at hl 1 rfl) ?_
        refine va_get (D := (dC, dI)) (ci := 2) (v := .ref h1) (C := R_Rt) (T := F_Rt) (N := 7) hx hb hts i_Rt hown hK hP 0 rfl rfl 0 (by decide) (hts _ m_74) (fun _ h9 => h9) rfl d_Rt_steps_48 ?_
        refine lv_iload_n hx hb d_Rt_steps_51 rfl (lv_at hl 0 rfl) ?_
        refine lv_i2l (v := (rt_cn a (rt_w sr pd ct cg pn rt mk n f g c k)).toInt64) hx hb d_Rt_steps_52 rfl ?_
        refine rt_gv (wr := [(h0, .inr (2, [.ref h1, .ref h2, .int rt, .int mk, .int sr, .int sv, .int tk])), (h2, .inr (1, [.ref h3, .ref h4, .int (nI n)])), (h3, .inl (cC, 32, .inl f)), (h4, .inl (cV, 32, .inl g))]) (rt_runV (rest := []) ⟨hx, hb, hml, hown, hts⟩ (c_Tm_leap l dC dI h1 H.size pd ct cg pn ((rt_cn a (rt_w sr pd ct cg pn rt mk n f g c k)).toInt64)) (rt_gV m_146 m_147 m_148 m_11 m_149) hd_Tm_leap ⟨Nat.le_of_ble_eq_true rfl, Nat.le_of_ble_eq_true rfl, rfl, rfl⟩ hP hK hD hN [1] [] (by decide) rfl rfl rfl rfl rfl hl.1 rfl (Nat.le_of_ble_eq_true rfl) d_Rt_steps_53 ⟨Nat.le_of_ble_eq_true rfl, Nat.le_of_ble_eq_true rfl⟩) hP hD hS hA [1] [0, 2, 3, 4] rfl rfl (by decide) (by decide) (fun u_53 H locs hw_53 hP hD hS _ => ?_)
        obtain ⟨ct_53, pn_53⟩ := u_53
        try dsimp only at hw_53
        obtain ⟨w0_53, w1_53⟩ := hw_53
        obtain rfl := w0_53.symm
        obtain rfl := w1_53.symm
        have hP : va_P (dC, dI) classes [(h0, .inr (2, [.ref h1, .ref h2, .int rt, .int mk, .int sr, .int sv, .int tk])), (h2, .inr (1, [.ref h3, .ref h4, .int (nI n)])), (h3, .inl (cC, 32, .inl f)), (h4, .inl (cV, 32, .inl g)), (h1, .inr (0, [.int pd, .int (rt_lc pd ct cg ((rt_cn a (rt_w sr pd ct cg pn rt mk n f g c k)).toInt64)), .int cg, .int (rt_lp pd ct cg pn ((rt_cn a (rt_w sr pd ct cg pn rt mk n f g c k)).toInt64))]))] H := hP
        have hD : va_D A [(h0, .inr (2, [.ref h1, .ref h2, .int rt, .int mk, .int sr, .int sv, .int tk])), (h2, .inr (1, [.ref h3, .ref h4, .int (nI n)])), (h3, .inl (cC, 32, .inl f)), (h4, .inl (cV, 32, .inl g)), (h1, .inr (0, [.int pd, .int (rt_lc pd ct cg ((rt_cn a (rt_w sr pd ct cg pn rt mk n f g c k)).toInt64)), .int cg, .int (rt_lp pd ct cg pn ((rt_cn a (rt_w sr pd ct cg pn rt mk n f g c k)).toInt64))]))] := hD
        refine lv_aload_n hx hb d_Rt_steps_56 rfl (lv_at hl 1 rfl) ?_
        refine lv_dup hx hb d_Rt_steps_57 rfl ?_
        refine va_get (D := (dC, dI)) (ci := 2) (v := .int rt) (C := R_Rt) (T := F_Rt) (N := 7) hx hb hts i_Rt hown hK hP 0 rfl rfl 2 (by decide) (hts _ m_76) (fun _ h9 => h9) rfl d_Rt_steps_58 ?_
        refine lv_iload_n hx hb d_Rt_steps_61 rfl (lv_at hl 0 rfl) ?_
        refine lv_iadd hx hb d_Rt_steps_62 ?_
        refine va_put (D := (dC, dI)) (ci := 2) (v := .int (rt + (rt_cn a (rt_w sr pd ct cg pn rt mk n f g c k)))) (ty := .int) (C := R_Rt) (T := F_Rt) (N := 7) hx hb hts i_Rt t_Rt t_Rt_ok n_Rt hown hK hP hD hS 0 rfl rfl 2 (by decide) (hts _ m_76) (fun _ h9 => h9) rfl (by decide +kernel) rfl rfl (Nat.le_of_ble_eq_true rfl) d_Rt_steps_63 (fun H locs hP hD hS => ?_)
        have hP : va_P (dC, dI) classes [(h0, .inr (2, [.ref h1, .ref h2, .int (rt + (rt_cn a (rt_w sr pd ct cg pn rt mk n f g c k))), .int mk, .int sr, .int sv, .int tk])), (h2, .inr (1, [.ref h3, .ref h4, .int (nI n)])), (h3, .inl (cC, 32, .inl f)), (h4, .inl (cV, 32, .inl g)), (h1, .inr (0, [.int pd, .int (rt_lc pd ct cg ((rt_cn a (rt_w sr pd ct cg pn rt mk n f g c k)).toInt64)), .int cg, .int (rt_lp pd ct cg pn ((rt_cn a (rt_w sr pd ct cg pn rt mk n f g c k)).toInt64))]))] H := hP
        have hD : va_D A [(h0, .inr (2, [.ref h1, .ref h2, .int (rt + (rt_cn a (rt_w sr pd ct cg pn rt mk n f g c k))), .int mk, .int sr, .int sv, .int tk])), (h2, .inr (1, [.ref h3, .ref h4, .int (nI n)])), (h3, .inl (cC, 32, .inl f)), (h4, .inl (cV, 32, .inl g)), (h1, .inr (0, [.int pd, .int (rt_lc pd ct cg ((rt_cn a (rt_w sr pd ct cg pn rt mk n f g c k)).toInt64)), .int cg, .int (rt_lp pd ct cg pn ((rt_cn a (rt_w sr pd ct cg pn rt mk n f g c k)).toInt64))]))] := hD
        refine lv_iload_n hx hb d_Rt_steps_66 rfl (lv_at hl 0 rfl) ?_
        refine rt_iret hx hb hr hlocks ((rt + (rt_cn a (rt_w sr pd ct cg pn rt mk n f g c k))), (rt_lc pd ct cg ((rt_cn a (rt_w sr pd ct cg pn rt mk n f g c k)).toInt64)), (rt_lp pd ct cg pn ((rt_cn a (rt_w sr pd ct cg pn rt mk n f g c k)).toInt64))) ?_ (hP.sub [0, 4, 1, 2, 3] rfl) hK (hD.sub [0, 4, 1, 2, 3] (by decide) rfl) hS d_Rt_steps_67
        try dsimp only
        exact by simp [rt_s0, rt_s1, rt_s2, rt_s3, rt_bad, c_2, c_9, c_24]
      · rw [lg_cmp_le] at c_24
        refine lv_iconst (v := (-1)) hx hb d_Rt_steps_27 (by decide) ?_
        refine rt_iret hx hb hr hlocks (rt, ct, pn) ?_ hP hK hD hS d_Rt_steps_28
        try dsimp only
        exact by simp [rt_s0, rt_s1, rt_s2, rt_s3, rt_bad, c_2, c_9, c_24]
set_option maxHeartbeats 4000000 in
set_option maxRecDepth 100000 in
theorem c_Rt_take (l : Launch) (dC : Nat → ClassId) (dI : Nat → Nat → Nat) (h0 h1 h2 h3 h4 : Nat) (cC cV : ClassId) (sz : Nat) (rt mk sr sv tk pd ct cg pn : Int32) (n : Nat) (f g : Nat → Int32) (c k : Nat) (hn : n ≤ 32) (hc : rt_cut f n rt c) (hk : rt_nx g mk n c k) :
    rt_Ci l y_Rt_take b_Rt_take 2 (some .int) ({ frames := 4, cells := 0, slots := 0, locals := 87 } : Room) dC dI [(cC, .int), (cV, .int)] [(h0, .inr (2, [.ref h1, .ref h2, .int rt, .int mk, .int sr, .int sv, .int tk])), (h1, .inr (0, [.int pd, .int ct, .int cg, .int pn])), (h2, .inr (1, [.ref h3, .ref h4, .int (nI n)])), (h3, .inl (cC, 32, .inl f)), (h4, .inl (cV, 32, .inl g))] sz [.ref h0] (fun (r : Int32) (u : Int32 × Int32 × Int32) => r = rt_dm sr pn mk (rt_lv g c) ∧ u.1 = rt_ts (rt_dm sr pn mk (rt_lv g c)) sr ∧ u.2.1 = rt_tv (rt_dm sr pn mk (rt_lv g c)) sr sv ∧ u.2.2 = rt_tt (rt_dm sr pn mk (rt_lv g c)) tk) (fun _ => [(cC, .int), (cV, .int)]) (fun u => [(h0, .inr (2, [.ref h1, .ref h2, .int rt, .int mk, .int u.1, .int u.2.1, .int u.2.2])), (h1, .inr (0, [.int pd, .int ct, .int cg, .int pn])), (h2, .inr (1, [.ref h3, .ref h4, .int (nI n)])), (h3, .inl (cC, 32, .inl f)), (h4, .inl (cV, 32, .inl g))]) 0 0 := by
  refine rt_meti (by decide) (Nat.le_of_ble_eq_true rfl) ?_
  intro p e s m below meth c_ A ls hx hb hr hml hown hts hlocks hin hP hK hD hN hA hS hl
  have hown : s.vm.findClass R_Rt = some m.cls := hown
  have hl : lv_has ls 2 [(0, .ref h0)] := hl
  refine lv_aload_n hx hb d_Rt_take_0 rfl (lv_at hl 0 rfl) ?_
  refine rt_gi (wr := []) (rt_runV (rest := []) ⟨hx, hb, hml, hown, hts⟩ (c_Rt_due l dC dI h0 h1 h2 h3 h4 cC cV s.heap.size rt mk sr sv tk pd ct cg pn n f g c k hn hc hk) (rt_gV m_154 m_156 m_4 m_10 m_157) hd_Rt_due ⟨Nat.le_of_ble_eq_true rfl, Nat.le_of_ble_eq_true rfl, rfl, rfl⟩ hP hK hD hN [0, 1, 2, 3, 4] [0, 1] (by decide) rfl rfl rfl rfl rfl hl.1 rfl (Nat.le_of_ble_eq_true rfl) d_Rt_take_1 ⟨Nat.le_of_ble_eq_true rfl, Nat.le_of_ble_eq_true rfl⟩) hP hD hS hA [0, 1, 2, 3, 4] [] rfl rfl (by decide) (by decide) (fun r_1 u_1 H locs hw_1 hP hD hS _ => ?_)
  try dsimp only at hw_1
  have w0_1 := hw_1
  obtain rfl := w0_1.symm
  have hP : va_P (dC, dI) classes [(h0, .inr (2, [.ref h1, .ref h2, .int rt, .int mk, .int sr, .int sv, .int tk])), (h1, .inr (0, [.int pd, .int ct, .int cg, .int pn])), (h2, .inr (1, [.ref h3, .ref h4, .int (nI n)])), (h3, .inl (cC, 32, .inl f)), (h4, .inl (cV, 32, .inl g))] H := hP
  have hD : va_D A [(h0, .inr (2, [.ref h1, .ref h2, .int rt, .int mk, .int sr, .int sv, .int tk])), (h1, .inr (0, [.int pd, .int ct, .int cg, .int pn])), (h2, .inr (1, [.ref h3, .ref h4, .int (nI n)])), (h3, .inl (cC, 32, .inl f)), (h4, .inl (cV, 32, .inl g))] := hD
  refine lv_istore_n (lv' := [(1, .int (rt_dm sr pn mk (rt_lv g c))), (0, .ref h0)]) hx hb d_Rt_take_4 rfl hl (by decide) rfl (fun ls hl => ?_)
  refine lv_iload_n hx hb d_Rt_take_5 rfl (lv_at hl 0 rfl) ?_
  refine lv_if_le (tgt := 40) hx hb d_Rt_take_6 (by decide) (fun c_6 => ?_) (fun c_6 => ?_)
  · refine lv_iload_n hx hb d_Rt_take_40 rfl (lv_at hl 0 rfl) ?_
    refine rt_iret hx hb hr hlocks (sr, sv, tk) ?_ hP hK hD hS d_Rt_take_41
    try dsimp only
    exact by simp only [rt_ts, rt_tv, rt_tt, if_pos c_6, eq_self, and_self]
  · refine lv_aload_n hx hb d_Rt_take_9 rfl (lv_at hl 1 rfl) ?_
    refine lv_aload_n hx hb d_Rt_take_10 rfl (lv_at hl 1 rfl) ?_
    refine va_get (D := (dC, dI)) (ci := 2) (v := .int sr) (C := R_Rt) (T := F_Rt) (N := 7) hx hb hts i_Rt hown hK hP 0 rfl rfl 4 (by decide) (hts _ m_78) (fun _ h9 => h9) rfl d_Rt_take_11 ?_
    refine va_put (D := (dC, dI)) (ci := 2) (v := .int sr) (ty := .int) (C := R_Rt) (T := F_Rt) (N := 7) hx hb hts i_Rt t_Rt t_Rt_ok n_Rt hown hK hP hD hS 0 rfl rfl 5 (by decide) (hts _ m_79) (fun _ h9 => h9) rfl (by decide +kernel) rfl rfl (Nat.le_of_ble_eq_true rfl) d_Rt_take_14 (fun H locs hP hD hS => ?_)
    have hP : va_P (dC, dI) classes [(h0, .inr (2, [.ref h1, .ref h2, .int rt, .int mk, .int sr, .int sr, .int tk])), (h1, .inr (0, [.int pd, .int ct, .int cg, .int pn])), (h2, .inr (1, [.ref h3, .ref h4, .int (nI n)])), (h3, .inl (cC, 32, .inl f)), (h4, .inl (cV, 32, .inl g))] H := hP
    have hD : va_D A [(h0, .inr (2, [.ref h1, .ref h2, .int rt, .int mk, .int sr, .int sr, .int tk])), (h1, .inr (0, [.int pd, .int ct, .int cg, .int pn])), (h2, .inr (1, [.ref h3, .ref h4, .int (nI n)])), (h3, .inl (cC, 32, .inl f)), (h4, .inl (cV, 32, .inl g))] := hD
    refine lv_aload_n hx hb d_Rt_take_17 rfl (lv_at hl 1 rfl) ?_
    refine lv_aload_n hx hb d_Rt_take_18 rfl (lv_at hl 1 rfl) ?_
    refine va_get (D := (dC, dI)) (ci := 2) (v := .int sr) (C := R_Rt) (T := F_Rt) (N := 7) hx hb hts i_Rt hown hK hP 0 rfl rfl 4 (by decide) (hts _ m_78) (fun _ h9 => h9) rfl d_Rt_take_19 ?_
    refine lv_bipush (v := 32) hx hb d_Rt_take_22 (by decide) ?_
    refine lv_iand hx hb d_Rt_take_24 ?_
    refine lv_iconst (v := 1) hx hb d_Rt_take_25 (by decide) ?_
    refine lv_ior hx hb d_Rt_take_26 ?_
    refine va_put (D := (dC, dI)) (ci := 2) (v := .int ((sr &&& 32) ||| 1)) (ty := .int) (C := R_Rt) (T := F_Rt) (N := 7) hx hb hts i_Rt t_Rt t_Rt_ok n_Rt hown hK hP hD hS 0 rfl rfl 4 (by decide) (hts _ m_78) (fun _ h9 => h9) rfl (by decide +kernel) rfl rfl (Nat.le_of_ble_eq_true rfl) d_Rt_take_27 (fun H locs hP hD hS => ?_)
    have hP : va_P (dC, dI) classes [(h0, .inr (2, [.ref h1, .ref h2, .int rt, .int mk, .int ((sr &&& 32) ||| 1), .int sr, .int tk])), (h1, .inr (0, [.int pd, .int ct, .int cg, .int pn])), (h2, .inr (1, [.ref h3, .ref h4, .int (nI n)])), (h3, .inl (cC, 32, .inl f)), (h4, .inl (cV, 32, .inl g))] H := hP
    have hD : va_D A [(h0, .inr (2, [.ref h1, .ref h2, .int rt, .int mk, .int ((sr &&& 32) ||| 1), .int sr, .int tk])), (h1, .inr (0, [.int pd, .int ct, .int cg, .int pn])), (h2, .inr (1, [.ref h3, .ref h4, .int (nI n)])), (h3, .inl (cC, 32, .inl f)), (h4, .inl (cV, 32, .inl g))] := hD
    refine lv_aload_n hx hb d_Rt_take_30 rfl (lv_at hl 1 rfl) ?_
    refine lv_dup hx hb d_Rt_take_31 rfl ?_
    refine va_get (D := (dC, dI)) (ci := 2) (v := .int tk) (C := R_Rt) (T := F_Rt) (N := 7) hx hb hts i_Rt hown hK hP 0 rfl rfl 6 (by decide) (hts _ m_80) (fun _ h9 => h9) rfl d_Rt_take_32 ?_
    refine lv_iconst (v := 1) hx hb d_Rt_take_35 (by decide) ?_
    refine lv_iadd hx hb d_Rt_take_36 ?_
    refine va_put (D := (dC, dI)) (ci := 2) (v := .int (tk + 1)) (ty := .int) (C := R_Rt) (T := F_Rt) (N := 7) hx hb hts i_Rt t_Rt t_Rt_ok n_Rt hown hK hP hD hS 0 rfl rfl 6 (by decide) (hts _ m_80) (fun _ h9 => h9) rfl (by decide +kernel) rfl rfl (Nat.le_of_ble_eq_true rfl) d_Rt_take_37 (fun H locs hP hD hS => ?_)
    have hP : va_P (dC, dI) classes [(h0, .inr (2, [.ref h1, .ref h2, .int rt, .int mk, .int ((sr &&& 32) ||| 1), .int sr, .int (tk + 1)])), (h1, .inr (0, [.int pd, .int ct, .int cg, .int pn])), (h2, .inr (1, [.ref h3, .ref h4, .int (nI n)])), (h3, .inl (cC, 32, .inl f)), (h4, .inl (cV, 32, .inl g))] H := hP
    have hD : va_D A [(h0, .inr (2, [.ref h1, .ref h2, .int rt, .int mk, .int ((sr &&& 32) ||| 1), .int sr, .int (tk + 1)])), (h1, .inr (0, [.int pd, .int ct, .int cg, .int pn])), (h2, .inr (1, [.ref h3, .ref h4, .int (nI n)])), (h3, .inl (cC, 32, .inl f)), (h4, .inl (cV, 32, .inl g))] := hD
    refine lv_iload_n hx hb d_Rt_take_40 rfl (lv_at hl 0 rfl) ?_
    refine rt_iret hx hb hr hlocks (((sr &&& 32) ||| 1), sr, (tk + 1)) ?_ hP hK hD hS d_Rt_take_41
    try dsimp only
    exact by simp only [rt_ts, rt_tv, rt_tt, if_neg c_6, eq_self, and_self]
set_option maxHeartbeats 4000000 in
set_option maxRecDepth 100000 in
theorem c_Rt_back (l : Launch) (dC : Nat → ClassId) (dI : Nat → Nat → Nat) (h0 h1 h2 h3 h4 : Nat) (cC cV : ClassId) (sz : Nat) (rt mk sr sv tk pd ct cg pn : Int32) (n : Nat) (f g : Nat → Int32) :
    rt_Cv l y_Rt_back b_Rt_back 1 none ({ frames := 0, cells := 0, slots := 0, locals := 0 } : Room) dC dI [(cC, .int), (cV, .int)] [(h0, .inr (2, [.ref h1, .ref h2, .int rt, .int mk, .int sr, .int sv, .int tk])), (h1, .inr (0, [.int pd, .int ct, .int cg, .int pn])), (h2, .inr (1, [.ref h3, .ref h4, .int (nI n)])), (h3, .inl (cC, 32, .inl f)), (h4, .inl (cV, 32, .inl g))] sz [.ref h0] (fun (u : Int32) => u = sv) (fun _ => [(cC, .int), (cV, .int)]) (fun u => [(h0, .inr (2, [.ref h1, .ref h2, .int rt, .int mk, .int u, .int sv, .int tk])), (h1, .inr (0, [.int pd, .int ct, .int cg, .int pn])), (h2, .inr (1, [.ref h3, .ref h4, .int (nI n)])), (h3, .inl (cC, 32, .inl f)), (h4, .inl (cV, 32, .inl g))]) 0 0 := by
  refine rt_metv (by decide) (Nat.le_of_ble_eq_true rfl) ?_
  intro p e s m below meth c_ A ls hx hb hr hml hown hts hlocks hin hP hK hD hN hA hS hl
  have hown : s.vm.findClass R_Rt = some m.cls := hown
  have hl : lv_has ls 1 [(0, .ref h0)] := hl
  refine lv_aload_n hx hb d_Rt_back_0 rfl (lv_at hl 0 rfl) ?_
  refine lv_aload_n hx hb d_Rt_back_1 rfl (lv_at hl 0 rfl) ?_
  refine va_get (D := (dC, dI)) (ci := 2) (v := .int sv) (C := R_Rt) (T := F_Rt) (N := 7) hx hb hts i_Rt hown hK hP 0 rfl rfl 5 (by decide) (hts _ m_79) (fun _ h9 => h9) rfl d_Rt_back_2 ?_
  refine va_put (D := (dC, dI)) (ci := 2) (v := .int sv) (ty := .int) (C := R_Rt) (T := F_Rt) (N := 7) hx hb hts i_Rt t_Rt t_Rt_ok n_Rt hown hK hP hD hS 0 rfl rfl 4 (by decide) (hts _ m_78) (fun _ h9 => h9) rfl (by decide +kernel) rfl rfl (Nat.le_of_ble_eq_true rfl) d_Rt_back_5 (fun H locs hP hD hS => ?_)
  have hP : va_P (dC, dI) classes [(h0, .inr (2, [.ref h1, .ref h2, .int rt, .int mk, .int sv, .int sv, .int tk])), (h1, .inr (0, [.int pd, .int ct, .int cg, .int pn])), (h2, .inr (1, [.ref h3, .ref h4, .int (nI n)])), (h3, .inl (cC, 32, .inl f)), (h4, .inl (cV, 32, .inl g))] H := hP
  have hD : va_D A [(h0, .inr (2, [.ref h1, .ref h2, .int rt, .int mk, .int sv, .int sv, .int tk])), (h1, .inr (0, [.int pd, .int ct, .int cg, .int pn])), (h2, .inr (1, [.ref h3, .ref h4, .int (nI n)])), (h3, .inl (cC, 32, .inl f)), (h4, .inl (cV, 32, .inl g))] := hD
  refine rt_vret hx hb hr hlocks sv ?_ hP hK hD hS d_Rt_back_8
  exact rfl
set_option maxHeartbeats 4000000 in
set_option maxRecDepth 100000 in
theorem c_Rt_mode (l : Launch) (dC : Nat → ClassId) (dI : Nat → Nat → Nat) (h0 h1 h2 h3 h4 : Nat) (cC cV : ClassId) (sz : Nat) (rt mk sr sv tk pd ct cg pn : Int32) (n : Nat) (f g : Nat → Int32) (a : Int32) :
    rt_Cv l y_Rt_mode b_Rt_mode 2 none ({ frames := 0, cells := 0, slots := 0, locals := 0 } : Room) dC dI [(cC, .int), (cV, .int)] [(h0, .inr (2, [.ref h1, .ref h2, .int rt, .int mk, .int sr, .int sv, .int tk])), (h1, .inr (0, [.int pd, .int ct, .int cg, .int pn])), (h2, .inr (1, [.ref h3, .ref h4, .int (nI n)])), (h3, .inl (cC, 32, .inl f)), (h4, .inl (cV, 32, .inl g))] sz [.ref h0, .int a] (fun (u : Int32) => u = a &&& 39) (fun _ => [(cC, .int), (cV, .int)]) (fun u => [(h0, .inr (2, [.ref h1, .ref h2, .int rt, .int mk, .int u, .int sv, .int tk])), (h1, .inr (0, [.int pd, .int ct, .int cg, .int pn])), (h2, .inr (1, [.ref h3, .ref h4, .int (nI n)])), (h3, .inl (cC, 32, .inl f)), (h4, .inl (cV, 32, .inl g))]) 0 0 := by
  refine rt_metv (by decide) (Nat.le_of_ble_eq_true rfl) ?_
  intro p e s m below meth c_ A ls hx hb hr hml hown hts hlocks hin hP hK hD hN hA hS hl
  have hown : s.vm.findClass R_Rt = some m.cls := hown
  have hl : lv_has ls 2 [(0, .ref h0), (1, .int a)] := hl
  refine lv_aload_n hx hb d_Rt_mode_0 rfl (lv_at hl 0 rfl) ?_
  refine lv_iload_n hx hb d_Rt_mode_1 rfl (lv_at hl 1 rfl) ?_
  refine lv_bipush (v := 39) hx hb d_Rt_mode_2 (by decide) ?_
  refine lv_iand hx hb d_Rt_mode_4 ?_
  refine va_put (D := (dC, dI)) (ci := 2) (v := .int (a &&& 39)) (ty := .int) (C := R_Rt) (T := F_Rt) (N := 7) hx hb hts i_Rt t_Rt t_Rt_ok n_Rt hown hK hP hD hS 0 rfl rfl 4 (by decide) (hts _ m_78) (fun _ h9 => h9) rfl (by decide +kernel) rfl rfl (Nat.le_of_ble_eq_true rfl) d_Rt_mode_5 (fun H locs hP hD hS => ?_)
  have hP : va_P (dC, dI) classes [(h0, .inr (2, [.ref h1, .ref h2, .int rt, .int mk, .int (a &&& 39), .int sv, .int tk])), (h1, .inr (0, [.int pd, .int ct, .int cg, .int pn])), (h2, .inr (1, [.ref h3, .ref h4, .int (nI n)])), (h3, .inl (cC, 32, .inl f)), (h4, .inl (cV, 32, .inl g))] H := hP
  have hD : va_D A [(h0, .inr (2, [.ref h1, .ref h2, .int rt, .int mk, .int (a &&& 39), .int sv, .int tk])), (h1, .inr (0, [.int pd, .int ct, .int cg, .int pn])), (h2, .inr (1, [.ref h3, .ref h4, .int (nI n)])), (h3, .inl (cC, 32, .inl f)), (h4, .inl (cV, 32, .inl g))] := hD
  refine rt_vret hx hb hr hlocks (a &&& 39) ?_ hP hK hD hS d_Rt_mode_8
  exact rfl
set_option maxHeartbeats 4000000 in
set_option maxRecDepth 100000 in
theorem c_Rt_mask (l : Launch) (dC : Nat → ClassId) (dI : Nat → Nat → Nat) (h0 h1 h2 h3 h4 : Nat) (cC cV : ClassId) (sz : Nat) (rt mk sr sv tk pd ct cg pn : Int32) (n : Nat) (f g : Nat → Int32) (a : Int32) :
    rt_Cv l y_Rt_mask b_Rt_mask 2 none ({ frames := 0, cells := 0, slots := 0, locals := 0 } : Room) dC dI [(cC, .int), (cV, .int)] [(h0, .inr (2, [.ref h1, .ref h2, .int rt, .int mk, .int sr, .int sv, .int tk])), (h1, .inr (0, [.int pd, .int ct, .int cg, .int pn])), (h2, .inr (1, [.ref h3, .ref h4, .int (nI n)])), (h3, .inl (cC, 32, .inl f)), (h4, .inl (cV, 32, .inl g))] sz [.ref h0, .int a] (fun (u : Int32) => u = a) (fun _ => [(cC, .int), (cV, .int)]) (fun u => [(h0, .inr (2, [.ref h1, .ref h2, .int rt, .int u, .int sr, .int sv, .int tk])), (h1, .inr (0, [.int pd, .int ct, .int cg, .int pn])), (h2, .inr (1, [.ref h3, .ref h4, .int (nI n)])), (h3, .inl (cC, 32, .inl f)), (h4, .inl (cV, 32, .inl g))]) 0 0 := by
  refine rt_metv (by decide) (Nat.le_of_ble_eq_true rfl) ?_
  intro p e s m below meth c_ A ls hx hb hr hml hown hts hlocks hin hP hK hD hN hA hS hl
  have hown : s.vm.findClass R_Rt = some m.cls := hown
  have hl : lv_has ls 2 [(0, .ref h0), (1, .int a)] := hl
  refine lv_aload_n hx hb d_Rt_mask_0 rfl (lv_at hl 0 rfl) ?_
  refine lv_iload_n hx hb d_Rt_mask_1 rfl (lv_at hl 1 rfl) ?_
  refine va_put (D := (dC, dI)) (ci := 2) (v := .int a) (ty := .int) (C := R_Rt) (T := F_Rt) (N := 7) hx hb hts i_Rt t_Rt t_Rt_ok n_Rt hown hK hP hD hS 0 rfl rfl 3 (by decide) (hts _ m_77) (fun _ h9 => h9) rfl (by decide +kernel) rfl rfl (Nat.le_of_ble_eq_true rfl) d_Rt_mask_2 (fun H locs hP hD hS => ?_)
  have hP : va_P (dC, dI) classes [(h0, .inr (2, [.ref h1, .ref h2, .int rt, .int a, .int sr, .int sv, .int tk])), (h1, .inr (0, [.int pd, .int ct, .int cg, .int pn])), (h2, .inr (1, [.ref h3, .ref h4, .int (nI n)])), (h3, .inl (cC, 32, .inl f)), (h4, .inl (cV, 32, .inl g))] H := hP
  have hD : va_D A [(h0, .inr (2, [.ref h1, .ref h2, .int rt, .int a, .int sr, .int sv, .int tk])), (h1, .inr (0, [.int pd, .int ct, .int cg, .int pn])), (h2, .inr (1, [.ref h3, .ref h4, .int (nI n)])), (h3, .inl (cC, 32, .inl f)), (h4, .inl (cV, 32, .inl g))] := hD
  refine rt_vret hx hb hr hlocks a ?_ hP hK hD hS d_Rt_mask_5
  exact rfl
set_option maxHeartbeats 4000000 in
set_option maxRecDepth 100000 in
theorem c_Rt_timer (l : Launch) (dC : Nat → ClassId) (dI : Nat → Nat → Nat) (h0 h1 h2 h3 h4 : Nat) (cC cV : ClassId) (sz : Nat) (rt mk sr sv tk pd ct cg pn : Int32) (n : Nat) (f g : Nat → Int32) (a : Int32) (b1 : Int32) (b2 : Int32) (hb1 : b1 = 0 ∨ b1 = 1) (hb2 : b2 = 0 ∨ b2 = 1) :
    rt_Cv l y_Rt_timer b_Rt_timer 4 none ({ frames := 0, cells := 0, slots := 0, locals := 0 } : Room) dC dI [(cC, .int), (cV, .int)] [(h0, .inr (2, [.ref h1, .ref h2, .int rt, .int mk, .int sr, .int sv, .int tk])), (h1, .inr (0, [.int pd, .int ct, .int cg, .int pn])), (h2, .inr (1, [.ref h3, .ref h4, .int (nI n)])), (h3, .inl (cC, 32, .inl f)), (h4, .inl (cV, 32, .inl g))] sz [.ref h0, .int a, .int b1, .int b2] (fun (u : Int32 × Int32 × Int32) => u.1 = a &&& 268435455 ∧ u.2.1 = b1 ∧ u.2.2 = b2) (fun _ => [(cC, .int), (cV, .int)]) (fun u => [(h0, .inr (2, [.ref h1, .ref h2, .int rt, .int mk, .int sr, .int sv, .int tk])), (h1, .inr (0, [.int u.1, .int ct, .int u.2.1, .int u.2.2])), (h2, .inr (1, [.ref h3, .ref h4, .int (nI n)])), (h3, .inl (cC, 32, .inl f)), (h4, .inl (cV, 32, .inl g))]) 0 0 := by
  refine rt_metv (by decide) (Nat.le_of_ble_eq_true rfl) ?_
  intro p e s m below meth c_ A ls hx hb hr hml hown hts hlocks hin hP hK hD hN hA hS hl
  have hown : s.vm.findClass R_Rt = some m.cls := hown
  have hl : lv_has ls 4 [(0, .ref h0), (1, .int a), (2, .int b1), (3, .int b2)] := hl
  refine lv_aload_n hx hb d_Rt_timer_0 rfl (lv_at hl 0 rfl) ?_
  refine va_get (D := (dC, dI)) (ci := 2) (v := .ref h1) (C := R_Rt) (T := F_Rt) (N := 7) hx hb hts i_Rt hown hK hP 0 rfl rfl 0 (by decide) (hts _ m_74) (fun _ h9 => h9) rfl d_Rt_timer_1 ?_
  refine lv_iload_n hx hb d_Rt_timer_4 rfl (lv_at hl 1 rfl) ?_
  refine lv_ldc hx hb hown (hts _ m_174) d_Rt_timer_5 ?_
  refine lv_iand hx hb d_Rt_timer_7 ?_
  refine va_putN (D := (dC, dI)) (ci := 0) (v := .int (a &&& 268435455)) (ty := .int) (C := R_Tm) (T := F_Tm) (N := 4) hx hb hts i_Tm t_Tm t_Tm_ok n_Tm hown hK hP hD hS 1 rfl rfl 0 (by decide) (hN.at 2 rfl rfl) (fun _ h9 => h9) rfl (by decide +kernel) rfl rfl (Nat.le_of_ble_eq_true rfl) d_Rt_timer_8 (fun H locs hP hD hS => ?_)
  have hP : va_P (dC, dI) classes [(h0, .inr (2, [.ref h1, .ref h2, .int rt, .int mk, .int sr, .int sv, .int tk])), (h1, .inr (0, [.int (a &&& 268435455), .int ct, .int cg, .int pn])), (h2, .inr (1, [.ref h3, .ref h4, .int (nI n)])), (h3, .inl (cC, 32, .inl f)), (h4, .inl (cV, 32, .inl g))] H := hP
  have hD : va_D A [(h0, .inr (2, [.ref h1, .ref h2, .int rt, .int mk, .int sr, .int sv, .int tk])), (h1, .inr (0, [.int (a &&& 268435455), .int ct, .int cg, .int pn])), (h2, .inr (1, [.ref h3, .ref h4, .int (nI n)])), (h3, .inl (cC, 32, .inl f)), (h4, .inl (cV, 32, .inl g))] := hD
  refine lv_aload_n hx hb d_Rt_timer_11 rfl (lv_at hl 0 rfl) ?_
  refine va_get (D := (dC, dI)) (ci := 2) (v := .ref h1) (C := R_Rt) (T := F_Rt) (N := 7) hx hb hts i_Rt hown hK hP 0 rfl rfl 0 (by decide) (hts _ m_74) (fun _ h9 => h9) rfl d_Rt_timer_12 ?_
  refine lv_iload_n hx hb d_Rt_timer_15 rfl (lv_at hl 2 rfl) ?_
  refine va_putN (D := (dC, dI)) (ci := 0) (v := .int b1) (ty := .boolean) (C := R_Tm) (T := F_Tm) (N := 4) hx hb hts i_Tm t_Tm t_Tm_ok n_Tm hown hK hP hD hS 1 rfl rfl 2 (by decide) (hN.at 4 rfl rfl) (fun _ h9 => h9) rfl (by decide +kernel) (rt_bn hb1) (rt_bf hb1) (Nat.le_of_ble_eq_true rfl) d_Rt_timer_16 (fun H locs hP hD hS => ?_)
  have hP : va_P (dC, dI) classes [(h0, .inr (2, [.ref h1, .ref h2, .int rt, .int mk, .int sr, .int sv, .int tk])), (h1, .inr (0, [.int (a &&& 268435455), .int ct, .int b1, .int pn])), (h2, .inr (1, [.ref h3, .ref h4, .int (nI n)])), (h3, .inl (cC, 32, .inl f)), (h4, .inl (cV, 32, .inl g))] H := hP
  have hD : va_D A [(h0, .inr (2, [.ref h1, .ref h2, .int rt, .int mk, .int sr, .int sv, .int tk])), (h1, .inr (0, [.int (a &&& 268435455), .int ct, .int b1, .int pn])), (h2, .inr (1, [.ref h3, .ref h4, .int (nI n)])), (h3, .inl (cC, 32, .inl f)), (h4, .inl (cV, 32, .inl g))] := hD
  refine lv_aload_n hx hb d_Rt_timer_19 rfl (lv_at hl 0 rfl) ?_
  refine va_get (D := (dC, dI)) (ci := 2) (v := .ref h1) (C := R_Rt) (T := F_Rt) (N := 7) hx hb hts i_Rt hown hK hP 0 rfl rfl 0 (by decide) (hts _ m_74) (fun _ h9 => h9) rfl d_Rt_timer_20 ?_
  refine lv_iload_n hx hb d_Rt_timer_23 rfl (lv_at hl 3 rfl) ?_
  refine va_putN (D := (dC, dI)) (ci := 0) (v := .int b2) (ty := .boolean) (C := R_Tm) (T := F_Tm) (N := 4) hx hb hts i_Tm t_Tm t_Tm_ok n_Tm hown hK hP hD hS 1 rfl rfl 3 (by decide) (hN.at 5 rfl rfl) (fun _ h9 => h9) rfl (by decide +kernel) (rt_bn hb2) (rt_bf hb2) (Nat.le_of_ble_eq_true rfl) d_Rt_timer_24 (fun H locs hP hD hS => ?_)
  have hP : va_P (dC, dI) classes [(h0, .inr (2, [.ref h1, .ref h2, .int rt, .int mk, .int sr, .int sv, .int tk])), (h1, .inr (0, [.int (a &&& 268435455), .int ct, .int b1, .int b2])), (h2, .inr (1, [.ref h3, .ref h4, .int (nI n)])), (h3, .inl (cC, 32, .inl f)), (h4, .inl (cV, 32, .inl g))] H := hP
  have hD : va_D A [(h0, .inr (2, [.ref h1, .ref h2, .int rt, .int mk, .int sr, .int sv, .int tk])), (h1, .inr (0, [.int (a &&& 268435455), .int ct, .int b1, .int b2])), (h2, .inr (1, [.ref h3, .ref h4, .int (nI n)])), (h3, .inl (cC, 32, .inl f)), (h4, .inl (cV, 32, .inl g))] := hD
  refine rt_vret hx hb hr hlocks ((a &&& 268435455), b1, b2) ?_ hP hK hD hS d_Rt_timer_27
  exact ⟨rfl, rfl, rfl⟩
set_option maxHeartbeats 4000000 in
set_option maxRecDepth 100000 in
theorem c_Rt_count (l : Launch) (dC : Nat → ClassId) (dI : Nat → Nat → Nat) (h0 h1 h2 h3 h4 : Nat) (cC cV : ClassId) (sz : Nat) (rt mk sr sv tk pd ct cg pn : Int32) (n : Nat) (f g : Nat → Int32) (a : Int32) :
    rt_Cv l y_Rt_count b_Rt_count 2 none ({ frames := 0, cells := 0, slots := 0, locals := 0 } : Room) dC dI [(cC, .int), (cV, .int)] [(h0, .inr (2, [.ref h1, .ref h2, .int rt, .int mk, .int sr, .int sv, .int tk])), (h1, .inr (0, [.int pd, .int ct, .int cg, .int pn])), (h2, .inr (1, [.ref h3, .ref h4, .int (nI n)])), (h3, .inl (cC, 32, .inl f)), (h4, .inl (cV, 32, .inl g))] sz [.ref h0, .int a] (fun (u : Int32) => u = a) (fun _ => [(cC, .int), (cV, .int)]) (fun u => [(h0, .inr (2, [.ref h1, .ref h2, .int rt, .int mk, .int sr, .int sv, .int tk])), (h1, .inr (0, [.int pd, .int u, .int cg, .int pn])), (h2, .inr (1, [.ref h3, .ref h4, .int (nI n)])), (h3, .inl (cC, 32, .inl f)), (h4, .inl (cV, 32, .inl g))]) 0 0 := by
  refine rt_metv (by decide) (Nat.le_of_ble_eq_true rfl) ?_
  intro p e s m below meth c_ A ls hx hb hr hml hown hts hlocks hin hP hK hD hN hA hS hl
  have hown : s.vm.findClass R_Rt = some m.cls := hown
  have hl : lv_has ls 2 [(0, .ref h0), (1, .int a)] := hl
  refine lv_aload_n hx hb d_Rt_count_0 rfl (lv_at hl 0 rfl) ?_
  refine va_get (D := (dC, dI)) (ci := 2) (v := .ref h1) (C := R_Rt) (T := F_Rt) (N := 7) hx hb hts i_Rt hown hK hP 0 rfl rfl 0 (by decide) (hts _ m_74) (fun _ h9 => h9) rfl d_Rt_count_1 ?_
  refine lv_iload_n hx hb d_Rt_count_4 rfl (lv_at hl 1 rfl) ?_
  refine va_putN (D := (dC, dI)) (ci := 0) (v := .int a) (ty := .int) (C := R_Tm) (T := F_Tm) (N := 4) hx hb hts i_Tm t_Tm t_Tm_ok n_Tm hown hK hP hD hS 1 rfl rfl 1 (by decide) (hN.at 3 rfl rfl) (fun _ h9 => h9) rfl (by decide +kernel) rfl rfl (Nat.le_of_ble_eq_true rfl) d_Rt_count_5 (fun H locs hP hD hS => ?_)
  have hP : va_P (dC, dI) classes [(h0, .inr (2, [.ref h1, .ref h2, .int rt, .int mk, .int sr, .int sv, .int tk])), (h1, .inr (0, [.int pd, .int a, .int cg, .int pn])), (h2, .inr (1, [.ref h3, .ref h4, .int (nI n)])), (h3, .inl (cC, 32, .inl f)), (h4, .inl (cV, 32, .inl g))] H := hP
  have hD : va_D A [(h0, .inr (2, [.ref h1, .ref h2, .int rt, .int mk, .int sr, .int sv, .int tk])), (h1, .inr (0, [.int pd, .int a, .int cg, .int pn])), (h2, .inr (1, [.ref h3, .ref h4, .int (nI n)])), (h3, .inl (cC, 32, .inl f)), (h4, .inl (cV, 32, .inl g))] := hD
  refine rt_vret hx hb hr hlocks a ?_ hP hK hD hS d_Rt_count_8
  exact rfl
set_option maxHeartbeats 4000000 in
set_option maxRecDepth 100000 in
theorem c_Rt_until (l : Launch) (dC : Nat → ClassId) (dI : Nat → Nat → Nat) (h0 h1 h2 h3 h4 : Nat) (cC cV : ClassId) (sz : Nat) (rt mk sr sv tk pd ct cg pn : Int32) (n : Nat) (f g : Nat → Int32) (c k : Nat) (hn : n ≤ 32) (hc : rt_cut f n rt c) (hk : rt_nx g mk n c k) :
    rt_Ci l y_Rt_until b_Rt_until 3 (some .int) ({ frames := 3, cells := 0, slots := 0, locals := 67 } : Room) dC dI [(cC, .int), (cV, .int)] [(h0, .inr (2, [.ref h1, .ref h2, .int rt, .int mk, .int sr, .int sv, .int tk])), (h1, .inr (0, [.int pd, .int ct, .int cg, .int pn])), (h2, .inr (1, [.ref h3, .ref h4, .int (nI n)])), (h3, .inl (cC, 32, .inl f)), (h4, .inl (cV, 32, .inl g))] sz [.ref h0] (fun (r : Int32) (u : Unit) => r = rt_un rt (rt_w sr pd ct cg pn rt mk n f g c k)) (fun _ => [(cC, .int), (cV, .int)]) (fun u => [(h0, .inr (2, [.ref h1, .ref h2, .int rt, .int mk, .int sr, .int sv, .int tk])), (h1, .inr (0, [.int pd, .int ct, .int cg, .int pn])), (h2, .inr (1, [.ref h3, .ref h4, .int (nI n)])), (h3, .inl (cC, 32, .inl f)), (h4, .inl (cV, 32, .inl g))]) 0 0 := by
  refine rt_meti (by decide) (Nat.le_of_ble_eq_true rfl) ?_
  intro p e s m below meth c_ A ls hx hb hr hml hown hts hlocks hin hP hK hD hN hA hS hl
  have hown : s.vm.findClass R_Rt = some m.cls := hown
  have hl : lv_has ls 3 [(0, .ref h0)] := hl
  refine lv_aload_n hx hb d_Rt_until_0 rfl (lv_at hl 0 rfl) ?_
  refine rt_gl (wr := []) (rt_runV (rest := []) ⟨hx, hb, hml, hown, hts⟩ (c_Rt_untilTimer l dC dI h0 h1 h2 h3 h4 cC cV s.heap.size rt mk sr sv tk pd ct cg pn n f g) (rt_gV m_110 m_112 m_0 m_10 m_113) hd_Rt_untilTimer ⟨Nat.le_of_ble_eq_true rfl, Nat.le_of_ble_eq_true rfl, rfl, rfl⟩ hP hK hD hN [0, 1, 2, 3, 4] [0, 1] (by decide) rfl rfl rfl rfl rfl hl.1 rfl (Nat.le_of_ble_eq_true rfl) d_Rt_until_1 ⟨Nat.le_of_ble_eq_true rfl, Nat.le_of_ble_eq_true rfl⟩) hP hD hS hA [0, 1, 2, 3, 4] [] rfl rfl (by decide) (by decide) (fun r_1 u_1 H locs hw_1 hP hD hS _ => ?_)
  try dsimp only at hw_1
  have w0_1 := hw_1
  obtain rfl := w0_1.symm
  have hP : va_P (dC, dI) classes [(h0, .inr (2, [.ref h1, .ref h2, .int rt, .int mk, .int sr, .int sv, .int tk])), (h1, .inr (0, [.int pd, .int ct, .int cg, .int pn])), (h2, .inr (1, [.ref h3, .ref h4, .int (nI n)])), (h3, .inl (cC, 32, .inl f)), (h4, .inl (cV, 32, .inl g))] H := hP
  have hD : va_D A [(h0, .inr (2, [.ref h1, .ref h2, .int rt, .int mk, .int sr, .int sv, .int tk])), (h1, .inr (0, [.int pd, .int ct, .int cg, .int pn])), (h2, .inr (1, [.ref h3, .ref h4, .int (nI n)])), (h3, .inl (cC, 32, .inl f)), (h4, .inl (cV, 32, .inl g))] := hD
  refine lv_aload_n hx hb d_Rt_until_4 rfl (lv_at hl 0 rfl) ?_
  refine rt_gl (wr := []) (rt_runV (rest := [.long (rt_wt sr pd ct cg pn)]) ⟨hx, hb, hml, hown, hts⟩ (c_Rt_untilLines l dC dI h0 h1 h2 h3 h4 cC cV H.size rt mk sr sv tk pd ct cg pn n f g c k hn hc hk) (rt_gV m_130 m_132 m_3 m_10 m_133) hd_Rt_untilLines ⟨Nat.le_of_ble_eq_true rfl, Nat.le_of_ble_eq_true rfl, rfl, rfl⟩ hP hK hD hN [0, 1, 2, 3, 4] [0, 1] (by decide) rfl rfl rfl rfl rfl hl.1 rfl (Nat.le_of_ble_eq_true rfl) d_Rt_until_5 ⟨Nat.le_of_ble_eq_true rfl, Nat.le_of_ble_eq_true rfl⟩) hP hD hS hA [0, 1, 2, 3, 4] [] rfl rfl (by decide) (by decide) (fun r_5 u_5 H locs hw_5 hP hD hS _ => ?_)
  try dsimp only at hw_5
  have w0_5 := hw_5
  obtain rfl := w0_5.symm
  have hP : va_P (dC, dI) classes [(h0, .inr (2, [.ref h1, .ref h2, .int rt, .int mk, .int sr, .int sv, .int tk])), (h1, .inr (0, [.int pd, .int ct, .int cg, .int pn])), (h2, .inr (1, [.ref h3, .ref h4, .int (nI n)])), (h3, .inl (cC, 32, .inl f)), (h4, .inl (cV, 32, .inl g))] H := hP
  have hD : va_D A [(h0, .inr (2, [.ref h1, .ref h2, .int rt, .int mk, .int sr, .int sv, .int tk])), (h1, .inr (0, [.int pd, .int ct, .int cg, .int pn])), (h2, .inr (1, [.ref h3, .ref h4, .int (nI n)])), (h3, .inl (cC, 32, .inl f)), (h4, .inl (cV, 32, .inl g))] := hD
  refine va_mmin_long hx hb (hml.trans hl.1.symm) hown (hts _ m_143) (hts _ m_144) (hts _ m_14) (hts _ m_145) (Nat.le_of_ble_eq_true rfl) (Nat.le_of_ble_eq_true rfl) (Nat.le_of_ble_eq_true rfl) (Nat.le_of_ble_eq_true rfl) d_Rt_until_8 ?_
  refine rt_topl (rt_mn (rt_wt sr pd ct cg pn) (rt_wl sr rt mk n f g c k)) rfl ?_
  refine rt_topl (rt_w sr pd ct cg pn rt mk n f g c k) (rfl) ?_
  refine lv_lstore_n (lv' := [(1, .long (rt_w sr pd ct cg pn rt mk n f g c k)), (0, .ref h0)]) hx hb d_Rt_until_11 rfl hl (by decide) rfl (fun ls hl => ?_)
  refine lv_lload_n hx hb d_Rt_until_12 rfl (lv_at hl 0 rfl) ?_
  refine lv_ldc2 hx hb hown (hts _ m_109) d_Rt_until_13 ?_
  refine lv_aload_n hx hb d_Rt_until_16 rfl (lv_at hl 1 rfl) ?_
  refine va_get (D := (dC, dI)) (ci := 2) (v := .int rt) (C := R_Rt) (T := F_Rt) (N := 7) hx hb hts i_Rt hown hK hP 0 rfl rfl 2 (by decide) (hts _ m_76) (fun _ h9 => h9) rfl d_Rt_until_17 ?_
  refine lv_i2l (v := rt.toInt64) hx hb d_Rt_until_20 rfl ?_
  refine lv_lsub hx hb d_Rt_until_21 ?_
  refine W.lcmp hx hb d_Rt_until_22 ?_
  refine lv_if_le (tgt := 30) hx hb d_Rt_until_23 (by decide) (fun c_23 => ?_) (fun c_23 => ?_)
  · rw [lg_cmp_le] at c_23
    refine lv_lload_n hx hb d_Rt_until_30 rfl (lv_at hl 0 rfl) ?_
    refine lv_l2i (v := (rt_w sr pd ct cg pn rt mk n f g c k).toInt32) hx hb d_Rt_until_31 rfl ?_
    refine rt_iret hx hb hr hlocks () ?_ hP hK hD hS d_Rt_until_32
    try dsimp only
    exact by simp only [rt_un, if_pos c_23, eq_self, and_self]
  · rw [lg_cmp_le] at c_23
    refine lv_iconst (v := (-1)) hx hb d_Rt_until_26 (by decide) ?_
    refine lv_goto (tgt := 32) hx hb d_Rt_until_27 (by decide) ?_
    refine rt_iret hx hb hr hlocks () ?_ hP hK hD hS d_Rt_until_32
    try dsimp only
    exact by simp only [rt_un, if_neg c_23, eq_self, and_self]
set_option maxHeartbeats 4000000 in
set_option maxRecDepth 100000 in
theorem c_Rt_linesAt (l : Launch) (dC : Nat → ClassId) (dI : Nat → Nat → Nat) (h0 h1 h2 h3 h4 : Nat) (cC cV : ClassId) (sz : Nat) (rt mk sr sv tk pd ct cg pn : Int32) (n : Nat) (f g : Nat → Int32) (a : Int32) (ca : Nat) (hn : n ≤ 32) (hc : rt_cut f n a ca) :
    rt_Ci l y_Rt_linesAt b_Rt_linesAt 2 (some .int) ({ frames := 1, cells := 0, slots := 0, locals := 24 } : Room) dC dI [(cC, .int), (cV, .int)] [(h0, .inr (2, [.ref h1, .ref h2, .int rt, .int mk, .int sr, .int sv, .int tk])), (h1, .inr (0, [.int pd, .int ct, .int cg, .int pn])), (h2, .inr (1, [.ref h3, .ref h4, .int (nI n)])), (h3, .inl (cC, 32, .inl f)), (h4, .inl (cV, 32, .inl g))] sz [.ref h0, .int a] (fun (r : Int32) (u : Unit) => r = rt_la a (rt_lv g ca)) (fun _ => [(cC, .int), (cV, .int)]) (fun u => [(h0, .inr (2, [.ref h1, .ref h2, .int rt, .int mk, .int sr, .int sv, .int tk])), (h1, .inr (0, [.int pd, .int ct, .int cg, .int pn])), (h2, .inr (1, [.ref h3, .ref h4, .int (nI n)])), (h3, .inl (cC, 32, .inl f)), (h4, .inl (cV, 32, .inl g))]) 0 0 := by
  refine rt_meti (by decide) (Nat.le_of_ble_eq_true rfl) ?_
  intro p e s m below meth c_ A ls hx hb hr hml hown hts hlocks hin hP hK hD hN hA hS hl
  have hown : s.vm.findClass R_Rt = some m.cls := hown
  have hl : lv_has ls 2 [(0, .ref h0), (1, .int a)] := hl
  refine lv_iload_n hx hb d_Rt_linesAt_0 rfl (lv_at hl 1 rfl) ?_
  refine lv_if_ge (tgt := 8) hx hb d_Rt_linesAt_1 (by decide) (fun c_1 => ?_) (fun c_1 => ?_)
  · refine lv_aload_n hx hb d_Rt_linesAt_8 rfl (lv_at hl 0 rfl) ?_
    refine va_get (D := (dC, dI)) (ci := 2) (v := .ref h2) (C := R_Rt) (T := F_Rt) (N := 7) hx hb hts i_Rt hown hK hP 0 rfl rfl 1 (by decide) (hts _ m_75) (fun _ h9 => h9) rfl d_Rt_linesAt_9 ?_
    refine lv_iload_n hx hb d_Rt_linesAt_12 rfl (lv_at hl 1 rfl) ?_
    refine rt_gi (wr := [(h0, .inr (2, [.ref h1, .ref h2, .int rt, .int mk, .int sr, .int sv, .int tk])), (h1, .inr (0, [.int pd, .int ct, .int cg, .int pn]))]) (rt_runV (rest := []) ⟨hx, hb, hml, hown, hts⟩ (c_Rw_at l dC dI h2 h3 h4 cC cV s.heap.size n f g a ca hn hc) (rt_gV m_187 m_139 m_140 m_12 m_141) hd_Rw_at ⟨Nat.le_of_ble_eq_true rfl, Nat.le_of_ble_eq_true rfl, rfl, rfl⟩ hP hK hD hN [2, 3, 4] [0, 1] (by decide) rfl rfl rfl rfl rfl hl.1 rfl (Nat.le_of_ble_eq_true rfl) d_Rt_linesAt_13 ⟨Nat.le_of_ble_eq_true rfl, Nat.le_of_ble_eq_true rfl⟩) hP hD hS hA [2, 3, 4] [0, 1] rfl rfl (by decide) (by decide) (fun r_13 u_13 H locs hw_13 hP hD hS _ => ?_)
    try dsimp only at hw_13
    have w0_13 := hw_13
    obtain rfl := w0_13.symm
    have hP : va_P (dC, dI) classes [(h0, .inr (2, [.ref h1, .ref h2, .int rt, .int mk, .int sr, .int sv, .int tk])), (h1, .inr (0, [.int pd, .int ct, .int cg, .int pn])), (h2, .inr (1, [.ref h3, .ref h4, .int (nI n)])), (h3, .inl (cC, 32, .inl f)), (h4, .inl (cV, 32, .inl g))] H := hP
    have hD : va_D A [(h0, .inr (2, [.ref h1, .ref h2, .int rt, .int mk, .int sr, .int sv, .int tk])), (h1, .inr (0, [.int pd, .int ct, .int cg, .int pn])), (h2, .inr (1, [.ref h3, .ref h4, .int (nI n)])), (h3, .inl (cC, 32, .inl f)), (h4, .inl (cV, 32, .inl g))] := hD
    refine rt_iret hx hb hr hlocks () ?_ hP hK hD hS d_Rt_linesAt_16
    try dsimp only
    exact by simp only [rt_la, if_pos c_1, eq_self, and_self]
  · refine lv_iconst (v := 0) hx hb d_Rt_linesAt_4 (by decide) ?_
    refine lv_goto (tgt := 16) hx hb d_Rt_linesAt_5 (by decide) ?_
    refine rt_iret hx hb hr hlocks () ?_ hP hK hD hS d_Rt_linesAt_16
    try dsimp only
    exact by simp only [rt_la, if_neg c_1, eq_self, and_self]
set_option maxHeartbeats 4000000 in
set_option maxRecDepth 100000 in
theorem c_Rt_entryOf (l : Launch) (dC : Nat → ClassId) (dI : Nat → Nat → Nat) (h0 h1 h2 h3 h4 : Nat) (cC cV : ClassId) (sz : Nat) (rt mk sr sv tk pd ct cg pn : Int32) (n : Nat) (f g : Nat → Int32) (a : Int32) (b : Int32) (hn : n ≤ 32) :
    rt_Ci l y_Rt_entryOf b_Rt_entryOf 3 (some .int) ({ frames := 0, cells := 0, slots := 0, locals := 0 } : Room) dC dI [(cC, .int), (cV, .int)] [(h0, .inr (2, [.ref h1, .ref h2, .int rt, .int mk, .int sr, .int sv, .int tk])), (h1, .inr (0, [.int pd, .int ct, .int cg, .int pn])), (h2, .inr (1, [.ref h3, .ref h4, .int (nI n)])), (h3, .inl (cC, 32, .inl f)), (h4, .inl (cV, 32, .inl g))] sz [.ref h0, .int a, .int b] (fun (r : Int32) (u : Unit) => r = rt_eo a b n f g) (fun _ => [(cC, .int), (cV, .int)]) (fun u => [(h0, .inr (2, [.ref h1, .ref h2, .int rt, .int mk, .int sr, .int sv, .int tk])), (h1, .inr (0, [.int pd, .int ct, .int cg, .int pn])), (h2, .inr (1, [.ref h3, .ref h4, .int (nI n)])), (h3, .inl (cC, 32, .inl f)), (h4, .inl (cV, 32, .inl g))]) 0 0 := by
  refine rt_meti (by decide) (Nat.le_of_ble_eq_true rfl) ?_
  intro p e s m below meth c_ A ls hx hb hr hml hown hts hlocks hin hP hK hD hN hA hS hl
  have hown : s.vm.findClass R_Rt = some m.cls := hown
  have hl : lv_has ls 3 [(0, .ref h0), (1, .int a), (2, .int b)] := hl
  refine lv_iload_n hx hb d_Rt_entryOf_0 rfl (lv_at hl 1 rfl) ?_
  refine lv_if_lt (tgt := 15) hx hb d_Rt_entryOf_1 (by decide) (fun c_1 => ?_) (fun c_1 => ?_)
  · refine lv_iconst (v := (-1)) hx hb d_Rt_entryOf_15 (by decide) ?_
    refine lv_goto (tgt := 44) hx hb d_Rt_entryOf_16 (by decide) ?_
    refine rt_iret hx hb hr hlocks () ?_ hP hK hD hS d_Rt_entryOf_44
    try dsimp only
    exact by simp only [rt_eo, if_pos c_1, eq_self, and_self]
  · refine lv_iload_n hx hb d_Rt_entryOf_4 rfl (lv_at hl 1 rfl) ?_
    refine lv_aload_n hx hb d_Rt_entryOf_5 rfl (lv_at hl 0 rfl) ?_
    refine va_get (D := (dC, dI)) (ci := 2) (v := .ref h2) (C := R_Rt) (T := F_Rt) (N := 7) hx hb hts i_Rt hown hK hP 0 rfl rfl 1 (by decide) (hts _ m_75) (fun _ h9 => h9) rfl d_Rt_entryOf_6 ?_
    refine va_getN (D := (dC, dI)) (ci := 1) (v := .int (nI n)) (C := R_Rw) (T := F_Rw) (N := 3) hx hb hts i_Rw hown hK hP 2 rfl rfl 2 (by decide) (hN.at 8 rfl rfl) (fun _ h9 => h9) rfl d_Rt_entryOf_9 ?_
    refine lv_icmp_lt (tgt := 19) hx hb d_Rt_entryOf_12 (by decide) (fun c_12 => ?_) (fun c_12 => ?_)
    · refine lv_iload_n hx hb d_Rt_entryOf_19 rfl (lv_at hl 2 rfl) ?_
      refine lv_if_eq (tgt := 35) hx hb d_Rt_entryOf_20 (by decide) (fun c_20 => ?_) (fun c_20 => ?_)
      · refine lv_aload_n hx hb d_Rt_entryOf_35 rfl (lv_at hl 0 rfl) ?_
        refine va_get (D := (dC, dI)) (ci := 2) (v := .ref h2) (C := R_Rt) (T := F_Rt) (N := 7) hx hb hts i_Rt hown hK hP 0 rfl rfl 1 (by decide) (hts _ m_75) (fun _ h9 => h9) rfl d_Rt_entryOf_36 ?_
        refine va_getN (D := (dC, dI)) (ci := 1) (v := .ref h3) (C := R_Rw) (T := F_Rw) (N := 3) hx hb hts i_Rw hown hK hP 2 rfl rfl 0 (by decide) (hN.at 6 rfl rfl) (fun _ h9 => h9) rfl d_Rt_entryOf_39 ?_
        refine lv_iload_n hx hb d_Rt_entryOf_42 rfl (lv_at hl 1 rfl) ?_
        refine rt_iald hx hb hK hP 3 0 rfl rfl a.toNatClampNeg (rt_cl c_1) (rt_cl32 c_1 c_12 hn) (by decide) d_Rt_entryOf_43 ?_
        refine rt_iret hx hb hr hlocks () ?_ hP hK hD hS d_Rt_entryOf_44
        try dsimp only
        exact by simp only [rt_eo, if_neg c_1, if_pos c_12, if_pos c_20, eq_self, and_self]
      · refine lv_aload_n hx hb d_Rt_entryOf_23 rfl (lv_at hl 0 rfl) ?_
        refine va_get (D := (dC, dI)) (ci := 2) (v := .ref h2) (C := R_Rt) (T := F_Rt) (N := 7) hx hb hts i_Rt hown hK hP 0 rfl rfl 1 (by decide) (hts _ m_75) (fun _ h9 => h9) rfl d_Rt_entryOf_24 ?_
        refine va_getN (D := (dC, dI)) (ci := 1) (v := .ref h4) (C := R_Rw) (T := F_Rw) (N := 3) hx hb hts i_Rw hown hK hP 2 rfl rfl 1 (by decide) (hN.at 7 rfl rfl) (fun _ h9 => h9) rfl d_Rt_entryOf_27 ?_
        refine lv_iload_n hx hb d_Rt_entryOf_30 rfl (lv_at hl 1 rfl) ?_
        refine rt_iald hx hb hK hP 4 1 rfl rfl a.toNatClampNeg (rt_cl c_1) (rt_cl32 c_1 c_12 hn) (by decide) d_Rt_entryOf_31 ?_
        refine lv_goto (tgt := 44) hx hb d_Rt_entryOf_32 (by decide) ?_
        refine rt_iret hx hb hr hlocks () ?_ hP hK hD hS d_Rt_entryOf_44
        try dsimp only
        exact by simp only [rt_eo, if_neg c_1, if_pos c_12, if_neg c_20, eq_self, and_self]
    · refine lv_iconst (v := (-1)) hx hb d_Rt_entryOf_15 (by decide) ?_
      refine lv_goto (tgt := 44) hx hb d_Rt_entryOf_16 (by decide) ?_
      refine rt_iret hx hb hr hlocks () ?_ hP hK hD hS d_Rt_entryOf_44
      try dsimp only
      exact by simp only [rt_eo, if_neg c_1, if_neg c_12, eq_self, and_self]
set_option maxHeartbeats 4000000 in
set_option maxRecDepth 100000 in
theorem c_Rt_look (l : Launch) (dC : Nat → ClassId) (dI : Nat → Nat → Nat) (h0 h1 h2 h3 h4 : Nat) (cC cV : ClassId) (sz : Nat) (rt mk sr sv tk pd ct cg pn : Int32) (n : Nat) (f g : Nat → Int32) (w : Int32) (c k : Nat) (hn : n ≤ 32) (hc : rt_cut f n rt c) (hk : rt_nx g mk n c k) :
    rt_Ci l y_Rt_look b_Rt_look 2 (some .int) ({ frames := 4, cells := 0, slots := 0, locals := 87 } : Room) dC dI [(cC, .int), (cV, .int)] [(h0, .inr (2, [.ref h1, .ref h2, .int rt, .int mk, .int sr, .int sv, .int tk])), (h1, .inr (0, [.int pd, .int ct, .int cg, .int pn])), (h2, .inr (1, [.ref h3, .ref h4, .int (nI n)])), (h3, .inl (cC, 32, .inl f)), (h4, .inl (cV, 32, .inl g))] sz [.ref h0, .int w] (fun (r : Int32) (u : Unit) => r = rt_lk w rt ct pd pn cg mk (rt_lv g c) sr sv tk n (rt_dm sr pn mk (rt_lv g c))) (fun _ => [(cC, .int), (cV, .int)]) (fun u => [(h0, .inr (2, [.ref h1, .ref h2, .int rt, .int mk, .int sr, .int sv, .int tk])), (h1, .inr (0, [.int pd, .int ct, .int cg, .int pn])), (h2, .inr (1, [.ref h3, .ref h4, .int (nI n)])), (h3, .inl (cC, 32, .inl f)), (h4, .inl (cV, 32, .inl g))]) 0 0 := by
  refine rt_meti (by decide) (Nat.le_of_ble_eq_true rfl) ?_
  intro p e s m below meth c_ A ls hx hb hr hml hown hts hlocks hin hP hK hD hN hA hS hl
  have hown : s.vm.findClass R_Rt = some m.cls := hown
  have hl : lv_has ls 2 [(0, .ref h0), (1, .int w)] := hl
  refine lv_iload_n hx hb d_Rt_look_0 rfl (lv_at hl 1 rfl) ?_
  by_cases e_0 : w = 0
  · refine rt_topi 0 e_0 ?_
    refine lv_tableIn (tgt := 64) hx hb d_Rt_look_1 (by decide) (by decide) rfl (by decide) ?_
    refine lv_aload_n hx hb d_Rt_look_64 rfl (lv_at hl 0 rfl) ?_
    refine va_get (D := (dC, dI)) (ci := 2) (v := .int rt) (C := R_Rt) (T := F_Rt) (N := 7) hx hb hts i_Rt hown hK hP 0 rfl rfl 2 (by decide) (hts _ m_76) (fun _ h9 => h9) rfl d_Rt_look_65 ?_
    refine rt_iret hx hb hr hlocks () ?_ hP hK hD hS d_Rt_look_68
    try dsimp only
    exact by simp only [rt_lk, rt_b1, if_pos e_0, eq_self]
  · skip
    by_cases e_1 : w = 1
    · refine rt_topi 1 e_1 ?_
      refine lv_tableIn (tgt := 69) hx hb d_Rt_look_1 (by decide) (by decide) rfl (by decide) ?_
      refine lv_aload_n hx hb d_Rt_look_69 rfl (lv_at hl 0 rfl) ?_
      refine va_get (D := (dC, dI)) (ci := 2) (v := .ref h1) (C := R_Rt) (T := F_Rt) (N := 7) hx hb hts i_Rt hown hK hP 0 rfl rfl 0 (by decide) (hts _ m_74) (fun _ h9 => h9) rfl d_Rt_look_70 ?_
      refine va_getN (D := (dC, dI)) (ci := 0) (v := .int ct) (C := R_Tm) (T := F_Tm) (N := 4) hx hb hts i_Tm hown hK hP 1 rfl rfl 1 (by decide) (hN.at 3 rfl rfl) (fun _ h9 => h9) rfl d_Rt_look_73 ?_
      refine rt_iret hx hb hr hlocks () ?_ hP hK hD hS d_Rt_look_76
      try dsimp only
      exact by simp only [rt_lk, rt_b1, if_neg e_0, if_pos e_1, eq_self]
    · skip
      by_cases e_2 : w = 2
      · refine rt_topi 2 e_2 ?_
        refine lv_tableIn (tgt := 77) hx hb d_Rt_look_1 (by decide) (by decide) rfl (by decide) ?_
        refine lv_aload_n hx hb d_Rt_look_77 rfl (lv_at hl 0 rfl) ?_
        refine va_get (D := (dC, dI)) (ci := 2) (v := .ref h1) (C := R_Rt) (T := F_Rt) (N := 7) hx hb hts i_Rt hown hK hP 0 rfl rfl 0 (by decide) (hts _ m_74) (fun _ h9 => h9) rfl d_Rt_look_78 ?_
        refine va_getN (D := (dC, dI)) (ci := 0) (v := .int pd) (C := R_Tm) (T := F_Tm) (N := 4) hx hb hts i_Tm hown hK hP 1 rfl rfl 0 (by decide) (hN.at 2 rfl rfl) (fun _ h9 => h9) rfl d_Rt_look_81 ?_
        refine rt_iret hx hb hr hlocks () ?_ hP hK hD hS d_Rt_look_84
        try dsimp only
        exact by simp only [rt_lk, rt_b1, if_neg e_0, if_neg e_1, if_pos e_2, eq_self]
      · skip
        by_cases e_3 : w = 3
        · refine rt_topi 3 e_3 ?_
          refine lv_tableIn (tgt := 85) hx hb d_Rt_look_1 (by decide) (by decide) rfl (by decide) ?_
          refine lv_aload_n hx hb d_Rt_look_85 rfl (lv_at hl 0 rfl) ?_
          refine va_get (D := (dC, dI)) (ci := 2) (v := .ref h1) (C := R_Rt) (T := F_Rt) (N := 7) hx hb hts i_Rt hown hK hP 0 rfl rfl 0 (by decide) (hts _ m_74) (fun _ h9 => h9) rfl d_Rt_look_86 ?_
          refine va_getN (D := (dC, dI)) (ci := 0) (v := .int pn) (C := R_Tm) (T := F_Tm) (N := 4) hx hb hts i_Tm hown hK hP 1 rfl rfl 3 (by decide) (hN.at 5 rfl rfl) (fun _ h9 => h9) rfl d_Rt_look_89 ?_
          refine lv_if_eq (tgt := 99) hx hb d_Rt_look_92 (by decide) (fun c_92 => ?_) (fun c_92 => ?_)
          · refine lv_iconst (v := 0) hx hb d_Rt_look_99 (by decide) ?_
            refine rt_iret hx hb hr hlocks () ?_ hP hK hD hS d_Rt_look_100
            try dsimp only
            exact by simp only [rt_lk, rt_b1, if_neg e_0, if_neg e_1, if_neg e_2, if_pos e_3, if_pos c_92, eq_self]
          · refine lv_iconst (v := 1) hx hb d_Rt_look_95 (by decide) ?_
            refine lv_goto (tgt := 100) hx hb d_Rt_look_96 (by decide) ?_
            refine rt_iret hx hb hr hlocks () ?_ hP hK hD hS d_Rt_look_100
            try dsimp only
            exact by simp only [rt_lk, rt_b1, if_neg e_0, if_neg e_1, if_neg e_2, if_pos e_3, if_neg c_92, eq_self]
        · skip
          by_cases e_4 : w = 4
          · refine rt_topi 4 e_4 ?_
            refine lv_tableIn (tgt := 101) hx hb d_Rt_look_1 (by decide) (by decide) rfl (by decide) ?_
            refine lv_aload_n hx hb d_Rt_look_101 rfl (lv_at hl 0 rfl) ?_
            refine va_get (D := (dC, dI)) (ci := 2) (v := .ref h1) (C := R_Rt) (T := F_Rt) (N := 7) hx hb hts i_Rt hown hK hP 0 rfl rfl 0 (by decide) (hts _ m_74) (fun _ h9 => h9) rfl d_Rt_look_102 ?_
            refine va_getN (D := (dC, dI)) (ci := 0) (v := .int cg) (C := R_Tm) (T := F_Tm) (N := 4) hx hb hts i_Tm hown hK hP 1 rfl rfl 2 (by decide) (hN.at 4 rfl rfl) (fun _ h9 => h9) rfl d_Rt_look_105 ?_
            refine lv_if_eq (tgt := 115) hx hb d_Rt_look_108 (by decide) (fun c_108 => ?_) (fun c_108 => ?_)
            · refine lv_iconst (v := 0) hx hb d_Rt_look_115 (by decide) ?_
              refine rt_iret hx hb hr hlocks () ?_ hP hK hD hS d_Rt_look_116
              try dsimp only
              exact by simp only [rt_lk, rt_b1, if_neg e_0, if_neg e_1, if_neg e_2, if_neg e_3, if_pos e_4, if_pos c_108, eq_self]
            · refine lv_iconst (v := 1) hx hb d_Rt_look_111 (by decide) ?_
              refine lv_goto (tgt := 116) hx hb d_Rt_look_112 (by decide) ?_
              refine rt_iret hx hb hr hlocks () ?_ hP hK hD hS d_Rt_look_116
              try dsimp only
              exact by simp only [rt_lk, rt_b1, if_neg e_0, if_neg e_1, if_neg e_2, if_neg e_3, if_pos e_4, if_neg c_108, eq_self]
          · skip
            by_cases e_5 : w = 5
            · refine rt_topi 5 e_5 ?_
              refine lv_tableIn (tgt := 117) hx hb d_Rt_look_1 (by decide) (by decide) rfl (by decide) ?_
              refine lv_aload_n hx hb d_Rt_look_117 rfl (lv_at hl 0 rfl) ?_
              refine va_get (D := (dC, dI)) (ci := 2) (v := .int mk) (C := R_Rt) (T := F_Rt) (N := 7) hx hb hts i_Rt hown hK hP 0 rfl rfl 3 (by decide) (hts _ m_77) (fun _ h9 => h9) rfl d_Rt_look_118 ?_
              refine rt_iret hx hb hr hlocks () ?_ hP hK hD hS d_Rt_look_121
              try dsimp only
              exact by simp only [rt_lk, rt_b1, if_neg e_0, if_neg e_1, if_neg e_2, if_neg e_3, if_neg e_4, if_pos e_5, eq_self]
            · skip
              by_cases e_6 : w = 6
              · refine rt_topi 6 e_6 ?_
                refine lv_tableIn (tgt := 122) hx hb d_Rt_look_1 (by decide) (by decide) rfl (by decide) ?_
                refine lv_aload_n hx hb d_Rt_look_122 rfl (lv_at hl 0 rfl) ?_
                refine va_get (D := (dC, dI)) (ci := 2) (v := .ref h2) (C := R_Rt) (T := F_Rt) (N := 7) hx hb hts i_Rt hown hK hP 0 rfl rfl 1 (by decide) (hts _ m_75) (fun _ h9 => h9) rfl d_Rt_look_123 ?_
                refine lv_aload_n hx hb d_Rt_look_126 rfl (lv_at hl 0 rfl) ?_
                refine va_get (D := (dC, dI)) (ci := 2) (v := .int rt) (C := R_Rt) (T := F_Rt) (N := 7) hx hb hts i_Rt hown hK hP 0 rfl rfl 2 (by decide) (hts _ m_76) (fun _ h9 => h9) rfl d_Rt_look_127 ?_
                refine rt_gi (wr := [(h0, .inr (2, [.ref h1, .ref h2, .int rt, .int mk, .int sr, .int sv, .int tk])), (h1, .inr (0, [.int pd, .int ct, .int cg, .int pn]))]) (rt_runV (rest := []) ⟨hx, hb, hml, hown, hts⟩ (c_Rw_at l dC dI h2 h3 h4 cC cV s.heap.size n f g rt c hn hc) (rt_gV m_187 m_139 m_140 m_12 m_141) hd_Rw_at ⟨Nat.le_of_ble_eq_true rfl, Nat.le_of_ble_eq_true rfl, rfl, rfl⟩ hP hK hD hN [2, 3, 4] [0, 1] (by decide) rfl rfl rfl rfl rfl hl.1 rfl (Nat.le_of_ble_eq_true rfl) d_Rt_look_130 ⟨Nat.le_of_ble_eq_true rfl, Nat.le_of_ble_eq_true rfl⟩) hP hD hS hA [2, 3, 4] [0, 1] rfl rfl (by decide) (by decide) (fun r_130 u_130 H locs hw_130 hP hD hS _ => ?_)
                try dsimp only at hw_130
                have w0_130 := hw_130
                obtain rfl := w0_130.symm
                have hP : va_P (dC, dI) classes [(h0, .inr (2, [.ref h1, .ref h2, .int rt, .int mk, .int sr, .int sv, .int tk])), (h1, .inr (0, [.int pd, .int ct, .int cg, .int pn])), (h2, .inr (1, [.ref h3, .ref h4, .int (nI n)])), (h3, .inl (cC, 32, .inl f)), (h4, .inl (cV, 32, .inl g))] H := hP
                have hD : va_D A [(h0, .inr (2, [.ref h1, .ref h2, .int rt, .int mk, .int sr, .int sv, .int tk])), (h1, .inr (0, [.int pd, .int ct, .int cg, .int pn])), (h2, .inr (1, [.ref h3, .ref h4, .int (nI n)])), (h3, .inl (cC, 32, .inl f)), (h4, .inl (cV, 32, .inl g))] := hD
                refine rt_iret hx hb hr hlocks () ?_ hP hK hD hS d_Rt_look_133
                try dsimp only
                exact by simp only [rt_lk, rt_b1, if_neg e_0, if_neg e_1, if_neg e_2, if_neg e_3, if_neg e_4, if_neg e_5, if_pos e_6, eq_self]
              · skip
                by_cases e_7 : w = 7
                · refine rt_topi 7 e_7 ?_
                  refine lv_tableIn (tgt := 134) hx hb d_Rt_look_1 (by decide) (by decide) rfl (by decide) ?_
                  refine lv_aload_n hx hb d_Rt_look_134 rfl (lv_at hl 0 rfl) ?_
                  refine va_get (D := (dC, dI)) (ci := 2) (v := .int sr) (C := R_Rt) (T := F_Rt) (N := 7) hx hb hts i_Rt hown hK hP 0 rfl rfl 4 (by decide) (hts _ m_78) (fun _ h9 => h9) rfl d_Rt_look_135 ?_
                  refine rt_iret hx hb hr hlocks () ?_ hP hK hD hS d_Rt_look_138
                  try dsimp only
                  exact by simp only [rt_lk, rt_b1, if_neg e_0, if_neg e_1, if_neg e_2, if_neg e_3, if_neg e_4, if_neg e_5, if_neg e_6, if_pos e_7, eq_self]
                · skip
                  by_cases e_8 : w = 8
                  · refine rt_topi 8 e_8 ?_
                    refine lv_tableIn (tgt := 139) hx hb d_Rt_look_1 (by decide) (by decide) rfl (by decide) ?_
                    refine lv_aload_n hx hb d_Rt_look_139 rfl (lv_at hl 0 rfl) ?_
                    refine va_get (D := (dC, dI)) (ci := 2) (v := .int sv) (C := R_Rt) (T := F_Rt) (N := 7) hx hb hts i_Rt hown hK hP 0 rfl rfl 5 (by decide) (hts _ m_79) (fun _ h9 => h9) rfl d_Rt_look_140 ?_
                    refine rt_iret hx hb hr hlocks () ?_ hP hK hD hS d_Rt_look_143
                    try dsimp only
                    exact by simp only [rt_lk, rt_b1, if_neg e_0, if_neg e_1, if_neg e_2, if_neg e_3, if_neg e_4, if_neg e_5, if_neg e_6, if_neg e_7, if_pos e_8, eq_self]
                  · skip
                    by_cases e_9 : w = 9
                    · refine rt_topi 9 e_9 ?_
                      refine lv_tableIn (tgt := 144) hx hb d_Rt_look_1 (by decide) (by decide) rfl (by decide) ?_
                      refine lv_aload_n hx hb d_Rt_look_144 rfl (lv_at hl 0 rfl) ?_
                      refine va_get (D := (dC, dI)) (ci := 2) (v := .int tk) (C := R_Rt) (T := F_Rt) (N := 7) hx hb hts i_Rt hown hK hP 0 rfl rfl 6 (by decide) (hts _ m_80) (fun _ h9 => h9) rfl d_Rt_look_145 ?_
                      refine rt_iret hx hb hr hlocks () ?_ hP hK hD hS d_Rt_look_148
                      try dsimp only
                      exact by simp only [rt_lk, rt_b1, if_neg e_0, if_neg e_1, if_neg e_2, if_neg e_3, if_neg e_4, if_neg e_5, if_neg e_6, if_neg e_7, if_neg e_8, if_pos e_9, eq_self]
                    · skip
                      by_cases e_10 : w = 10
                      · refine rt_topi 10 e_10 ?_
                        refine lv_tableIn (tgt := 149) hx hb d_Rt_look_1 (by decide) (by decide) rfl (by decide) ?_
                        refine lv_aload_n hx hb d_Rt_look_149 rfl (lv_at hl 0 rfl) ?_
                        refine va_get (D := (dC, dI)) (ci := 2) (v := .ref h2) (C := R_Rt) (T := F_Rt) (N := 7) hx hb hts i_Rt hown hK hP 0 rfl rfl 1 (by decide) (hts _ m_75) (fun _ h9 => h9) rfl d_Rt_look_150 ?_
                        refine va_getN (D := (dC, dI)) (ci := 1) (v := .int (nI n)) (C := R_Rw) (T := F_Rw) (N := 3) hx hb hts i_Rw hown hK hP 2 rfl rfl 2 (by decide) (hN.at 8 rfl rfl) (fun _ h9 => h9) rfl d_Rt_look_153 ?_
                        refine rt_iret hx hb hr hlocks () ?_ hP hK hD hS d_Rt_look_156
                        try dsimp only
                        exact by simp only [rt_lk, rt_b1, if_neg e_0, if_neg e_1, if_neg e_2, if_neg e_3, if_neg e_4, if_neg e_5, if_neg e_6, if_neg e_7, if_neg e_8, if_neg e_9, if_pos e_10, eq_self]
                      · skip
                        by_cases e_11 : w = 11
                        · refine rt_topi 11 e_11 ?_
                          refine lv_tableIn (tgt := 157) hx hb d_Rt_look_1 (by decide) (by decide) rfl (by decide) ?_
                          refine lv_aload_n hx hb d_Rt_look_157 rfl (lv_at hl 0 rfl) ?_
                          refine rt_gi (wr := []) (rt_runV (rest := []) ⟨hx, hb, hml, hown, hts⟩ (c_Rt_due l dC dI h0 h1 h2 h3 h4 cC cV s.heap.size rt mk sr sv tk pd ct cg pn n f g c k hn hc hk) (rt_gV m_154 m_156 m_4 m_10 m_157) hd_Rt_due ⟨Nat.le_of_ble_eq_true rfl, Nat.le_of_ble_eq_true rfl, rfl, rfl⟩ hP hK hD hN [0, 1, 2, 3, 4] [0, 1] (by decide) rfl rfl rfl rfl rfl hl.1 rfl (Nat.le_of_ble_eq_true rfl) d_Rt_look_158 ⟨Nat.le_of_ble_eq_true rfl, Nat.le_of_ble_eq_true rfl⟩) hP hD hS hA [0, 1, 2, 3, 4] [] rfl rfl (by decide) (by decide) (fun r_158 u_158 H locs hw_158 hP hD hS _ => ?_)
                          try dsimp only at hw_158
                          have w0_158 := hw_158
                          obtain rfl := w0_158.symm
                          have hP : va_P (dC, dI) classes [(h0, .inr (2, [.ref h1, .ref h2, .int rt, .int mk, .int sr, .int sv, .int tk])), (h1, .inr (0, [.int pd, .int ct, .int cg, .int pn])), (h2, .inr (1, [.ref h3, .ref h4, .int (nI n)])), (h3, .inl (cC, 32, .inl f)), (h4, .inl (cV, 32, .inl g))] H := hP
                          have hD : va_D A [(h0, .inr (2, [.ref h1, .ref h2, .int rt, .int mk, .int sr, .int sv, .int tk])), (h1, .inr (0, [.int pd, .int ct, .int cg, .int pn])), (h2, .inr (1, [.ref h3, .ref h4, .int (nI n)])), (h3, .inl (cC, 32, .inl f)), (h4, .inl (cV, 32, .inl g))] := hD
                          refine rt_iret hx hb hr hlocks () ?_ hP hK hD hS d_Rt_look_161
                          try dsimp only
                          exact by simp only [rt_lk, rt_b1, if_neg e_0, if_neg e_1, if_neg e_2, if_neg e_3, if_neg e_4, if_neg e_5, if_neg e_6, if_neg e_7, if_neg e_8, if_neg e_9, if_neg e_10, if_pos e_11, eq_self]
                        · skip
                          refine lv_tableOut (tgt := 162) hx hb d_Rt_look_1 (by have q0 := lv_neT e_0 (a := 0) rfl; have q1 := lv_neT e_1 (a := 1) rfl; have q2 := lv_neT e_2 (a := 2) rfl; have q3 := lv_neT e_3 (a := 3) rfl; have q4 := lv_neT e_4 (a := 4) rfl; have q5 := lv_neT e_5 (a := 5) rfl; have q6 := lv_neT e_6 (a := 6) rfl; have q7 := lv_neT e_7 (a := 7) rfl; have q8 := lv_neT e_8 (a := 8) rfl; have q9 := lv_neT e_9 (a := 9) rfl; have q10 := lv_neT e_10 (a := 10) rfl; have q11 := lv_neT e_11 (a := 11) rfl; omega) (by decide) ?_
                          refine lv_iconst (v := (-1)) hx hb d_Rt_look_162 (by decide) ?_
                          refine rt_iret hx hb hr hlocks () ?_ hP hK hD hS d_Rt_look_163
                          try dsimp only
                          exact by simp only [rt_lk, rt_b1, if_neg e_0, if_neg e_1, if_neg e_2, if_neg e_3, if_neg e_4, if_neg e_5, if_neg e_6, if_neg e_7, if_neg e_8, if_neg e_9, if_neg e_10, if_neg e_11, eq_self]
end
section
set_option maxHeartbeats 4000000 in
set_option maxRecDepth 100000 in
theorem c_Tm_init (l : Launch) (dC : Nat → ClassId) (dI : Nat → Nat → Nat) (h0 sz : Nat) (pd ct cg pn : Int32) :
    rt_Cv l y_Tm_init b_Tm_init 1 none ({ frames := 1, cells := 0, slots := 0, locals := 12 } : Room) dC dI [] [(h0, .inr (0, [.int pd, .int ct, .int cg, .int pn]))] sz [.ref h0] (fun (u : Unit) => True) (fun u => []) (fun u => [(h0, .inr (0, [.int pd, .int ct, .int cg, .int pn]))]) 0 0 := by
  refine rt_metv (by decide) (Nat.le_of_ble_eq_true rfl) ?_
  intro p e s m below meth c_ A ls hx hb hr hml hown hts hlocks hin hP hK hD hN hA hS hl
  have hown : s.vm.findClass R_Tm = some m.cls := hown
  have hl : lv_has ls 1 [(0, .ref h0)] := hl
  refine lv_aload_n hx hb d_Tm_init_0 rfl (lv_at hl 0 rfl) ?_
  refine W.objInit hx hb hown (hts _ m_28) (hts _ m_21) (hts _ m_22) rfl (by rw [hml]; exact hl.1) rfl d_Tm_init_1 (Nat.le_of_ble_eq_true rfl) (Nat.le_of_ble_eq_true rfl) ?_
  refine W.eq (g2 := F0 m 4 ls []) rfl ?_
  refine rt_vret hx hb hr hlocks () trivial (hP.sub [0] rfl) (hK.sub [] rfl) (hD.sub [0] (by decide) rfl) hS d_Tm_init_4
set_option maxHeartbeats 4000000 in
set_option maxRecDepth 100000 in
theorem c_Rw_init (l : Launch) (dC : Nat → ClassId) (dI : Nat → Nat → Nat) (h0 sz : Nat) (mn : Int32) :
    rt_Cv l y_Rw_init b_Rw_init 1 none ({ frames := 1, cells := 2, slots := 64, locals := 12 } : Room) dC dI [] [(h0, .inr (1, [.null, .null, .int mn]))] sz [.ref h0] (fun (u : Nat × Nat × ClassId × ClassId) => True) (fun u => [(u.2.2.1, .int), (u.2.2.2, .int)]) (fun u => [(h0, .inr (1, [.ref u.1, .ref u.2.1, .int mn])), (u.1, .inl (u.2.2.1, 32, .inl (fun _ => 0))), (u.2.1, .inl (u.2.2.2, 32, .inl (fun _ => 0)))]) 2 64 := by
  refine rt_metv (by decide) (Nat.le_of_ble_eq_true rfl) ?_
  intro p e s m below meth c_ A ls hx hb hr hml hown hts hlocks hin hP hK hD hN hA hS hl
  have hown : s.vm.findClass R_Rw = some m.cls := hown
  have hl : lv_has ls 1 [(0, .ref h0)] := hl
  refine lv_aload_n hx hb d_Rw_init_0 rfl (lv_at hl 0 rfl) ?_
  refine W.objInit hx hb hown (hts _ m_51) (hts _ m_21) (hts _ m_22) rfl (by rw [hml]; exact hl.1) rfl d_Rw_init_1 (Nat.le_of_ble_eq_true rfl) (Nat.le_of_ble_eq_true rfl) ?_
  refine W.eq (g2 := F0 m 4 ls []) rfl ?_
  refine lv_aload_n hx hb d_Rw_init_4 rfl (lv_at hl 0 rfl) ?_
  refine lv_bipush (v := 32) hx hb d_Rw_init_5 (by decide) ?_
  refine va_newa (atype := .int) (ty := .int) (a0 := (32, .inl (fun _ => 0))) hx hb (hts _ m_65) rfl hK hP hD hS hA (fun _ => rfl) (by decide) rfl (by decide) (Nat.le_of_ble_eq_true rfl) (Nat.le_of_ble_eq_true rfl) d_Rw_init_7 (fun q_7 cA_7 H hK hP hD hS => ?_)
  have hP : va_P (dC, dI) classes [(h0, .inr (1, [.null, .null, .int mn])), (q_7, .inl (cA_7, 32, .inl (fun _ => 0)))] H := hP
  have hD : va_D A [(h0, .inr (1, [.null, .null, .int mn])), (q_7, .inl (cA_7, 32, .inl (fun _ => 0)))] := hD
  have hK : va_K (dC, dI) classes [(cA_7, .int)] s := hK
  refine va_putF (D := (dC, dI)) (ci := 1) (v := .ref q_7) (ty := .array .int) (C := R_Rw) (T := F_Rw) (N := 3) hx hb hts i_Rw t_Rw t_Rw_ok n_Rw hown hK hP hD hS 0 rfl rfl 0 (by decide) (hts _ m_52) (fun _ h9 => h9) rfl hin rfl (by decide +kernel) rfl rfl (Nat.le_of_ble_eq_true rfl) d_Rw_init_9 (fun H locs hP hD hS => ?_)
  have hP : va_P (dC, dI) classes [(h0, .inr (1, [.ref q_7, .null, .int mn])), (q_7, .inl (cA_7, 32, .inl (fun _ => 0)))] H := hP
  have hD : va_D A [(h0, .inr (1, [.ref q_7, .null, .int mn])), (q_7, .inl (cA_7, 32, .inl (fun _ => 0)))] := hD
  refine lv_aload_n hx hb d_Rw_init_12 rfl (lv_at hl 0 rfl) ?_
  refine lv_bipush (v := 32) hx hb d_Rw_init_13 (by decide) ?_
  refine va_newa (atype := .int) (ty := .int) (a0 := (32, .inl (fun _ => 0))) hx hb (hts _ m_65) rfl hK hP hD hS hA (fun _ => rfl) (by decide) rfl (by decide) (Nat.le_of_ble_eq_true rfl) (Nat.le_of_ble_eq_true rfl) d_Rw_init_15 (fun q_15 cA_15 H hK hP hD hS => ?_)
  have hP : va_P (dC, dI) classes [(h0, .inr (1, [.ref q_7, .null, .int mn])), (q_7, .inl (cA_7, 32, .inl (fun _ => 0))), (q_15, .inl (cA_15, 32, .inl (fun _ => 0)))] H := hP
  have hD : va_D A [(h0, .inr (1, [.ref q_7, .null, .int mn])), (q_7, .inl (cA_7, 32, .inl (fun _ => 0))), (q_15, .inl (cA_15, 32, .inl (fun _ => 0)))] := hD
  have hK : va_K (dC, dI) classes [(cA_7, .int), (cA_15, .int)] s := hK
  refine va_putF (D := (dC, dI)) (ci := 1) (v := .ref q_15) (ty := .array .int) (C := R_Rw) (T := F_Rw) (N := 3) hx hb hts i_Rw t_Rw t_Rw_ok n_Rw hown hK hP hD hS 0 rfl rfl 1 (by decide) (hts _ m_54) (fun _ h9 => h9) rfl hin rfl (by decide +kernel) rfl rfl (Nat.le_of_ble_eq_true rfl) d_Rw_init_17 (fun H locs hP hD hS => ?_)
  have hP : va_P (dC, dI) classes [(h0, .inr (1, [.ref q_7, .ref q_15, .int mn])), (q_7, .inl (cA_7, 32, .inl (fun _ => 0))), (q_15, .inl (cA_15, 32, .inl (fun _ => 0)))] H := hP
  have hD : va_D A [(h0, .inr (1, [.ref q_7, .ref q_15, .int mn])), (q_7, .inl (cA_7, 32, .inl (fun _ => 0))), (q_15, .inl (cA_15, 32, .inl (fun _ => 0)))] := hD
  refine rt_vret hx hb hr hlocks (q_7, q_15, cA_7, cA_15) trivial (hP.sub [0, 1, 2] rfl) (hK.sub [0, 1] rfl) (hD.sub [0, 1, 2] (by decide) rfl) hS d_Rw_init_20
set_option maxHeartbeats 4000000 in
set_option maxRecDepth 100000 in
theorem c_Md_init (l : Launch) (dC : Nat → ClassId) (dI : Nat → Nat → Nat) (h0 sz : Nat) :
    rt_Cv l y_Md_init b_Md_init 1 none ({ frames := 1, cells := 2, slots := 64, locals := 12 } : Room) dC dI [] [(h0, .inr (3, [.int 0, .int 0, .int 0, .int 0, .int 0, .int 0, .int 0, .int 0, .int 0, .int 0, .null, .null, .int 0, .int 0]))] sz [.ref h0] (fun (u : Nat × Nat × ClassId × ClassId) => True) (fun u => [(u.2.2.1, .int), (u.2.2.2, .int)]) (fun u => [(h0, .inr (3, [.int 0, .int 0, .int 0, .int 0, .int 0, .int 0, .int 0, .int 1, .int 0, .int 0, .ref u.1, .ref u.2.1, .int (nI 0), .int (nI 0)])), (u.1, .inl (u.2.2.1, 32, .inl (fun _ => 0))), (u.2.1, .inl (u.2.2.2, 32, .inl (fun _ => 0)))]) 2 64 := by
  refine rt_metv (by decide) (Nat.le_of_ble_eq_true rfl) ?_
  intro p e s m below meth c_ A ls hx hb hr hml hown hts hlocks hin hP hK hD hN hA hS hl
  have hown : s.vm.findClass R_Md = some m.cls := hown
  have hl : lv_has ls 1 [(0, .ref h0)] := hl
  refine lv_aload_n hx hb d_Md_init_0 rfl (lv_at hl 0 rfl) ?_
  refine W.objInit hx hb hown (hts _ m_201) (hts _ m_21) (hts _ m_22) rfl (by rw [hml]; exact hl.1) rfl d_Md_init_1 (Nat.le_of_ble_eq_true rfl) (Nat.le_of_ble_eq_true rfl) ?_
  refine W.eq (g2 := F0 m 4 ls []) rfl ?_
  refine lv_aload_n hx hb d_Md_init_4 rfl (lv_at hl 0 rfl) ?_
  refine lv_iconst (v := 1) hx hb d_Md_init_5 (by decide) ?_
  refine va_put (D := (dC, dI)) (ci := 3) (v := .int 1) (ty := .int) (C := R_Md) (T := F_Md) (N := 14) hx hb hts i_Md t_Md t_Md_ok n_Md hown hK hP hD hS 0 rfl rfl 7 (by decide) (hts _ m_209) (fun _ h9 => h9) rfl (by decide +kernel) rfl rfl (Nat.le_of_ble_eq_true rfl) d_Md_init_6 (fun H locs hP hD hS => ?_)
  have hP : va_P (dC, dI) classes [(h0, .inr (3, [.int 0, .int 0, .int 0, .int 0, .int 0, .int 0, .int 0, .int 1, .int 0, .int 0, .null, .null, .int 0, .int 0]))] H := hP
  have hD : va_D A [(h0, .inr (3, [.int 0, .int 0, .int 0, .int 0, .int 0, .int 0, .int 0, .int 1, .int 0, .int 0, .null, .null, .int 0, .int 0]))] := hD
  refine lv_aload_n hx hb d_Md_init_9 rfl (lv_at hl 0 rfl) ?_
  refine lv_bipush (v := 32) hx hb d_Md_init_10 (by decide) ?_
  refine va_newa (atype := .int) (ty := .int) (a0 := (32, .inl (fun _ => 0))) hx hb (hts _ m_65) rfl hK hP hD hS hA (fun _ => rfl) (by decide) rfl (by decide) (Nat.le_of_ble_eq_true rfl) (Nat.le_of_ble_eq_true rfl) d_Md_init_12 (fun q_12 cA_12 H hK hP hD hS => ?_)
  have hP : va_P (dC, dI) classes [(h0, .inr (3, [.int 0, .int 0, .int 0, .int 0, .int 0, .int 0, .int 0, .int 1, .int 0, .int 0, .null, .null, .int 0, .int 0])), (q_12, .inl (cA_12, 32, .inl (fun _ => 0)))] H := hP
  have hD : va_D A [(h0, .inr (3, [.int 0, .int 0, .int 0, .int 0, .int 0, .int 0, .int 0, .int 1, .int 0, .int 0, .null, .null, .int 0, .int 0])), (q_12, .inl (cA_12, 32, .inl (fun _ => 0)))] := hD
  have hK : va_K (dC, dI) classes [(cA_12, .int)] s := hK
  refine va_putF (D := (dC, dI)) (ci := 3) (v := .ref q_12) (ty := .array .int) (C := R_Md) (T := F_Md) (N := 14) hx hb hts i_Md t_Md t_Md_ok n_Md hown hK hP hD hS 0 rfl rfl 10 (by decide) (hts _ m_212) (fun _ h9 => h9) rfl hin rfl (by decide +kernel) rfl rfl (Nat.le_of_ble_eq_true rfl) d_Md_init_14 (fun H locs hP hD hS => ?_)
  have hP : va_P (dC, dI) classes [(h0, .inr (3, [.int 0, .int 0, .int 0, .int 0, .int 0, .int 0, .int 0, .int 1, .int 0, .int 0, .ref q_12, .null, .int 0, .int 0])), (q_12, .inl (cA_12, 32, .inl (fun _ => 0)))] H := hP
  have hD : va_D A [(h0, .inr (3, [.int 0, .int 0, .int 0, .int 0, .int 0, .int 0, .int 0, .int 1, .int 0, .int 0, .ref q_12, .null, .int 0, .int 0])), (q_12, .inl (cA_12, 32, .inl (fun _ => 0)))] := hD
  refine lv_aload_n hx hb d_Md_init_17 rfl (lv_at hl 0 rfl) ?_
  refine lv_bipush (v := 32) hx hb d_Md_init_18 (by decide) ?_
  refine va_newa (atype := .int) (ty := .int) (a0 := (32, .inl (fun _ => 0))) hx hb (hts _ m_65) rfl hK hP hD hS hA (fun _ => rfl) (by decide) rfl (by decide) (Nat.le_of_ble_eq_true rfl) (Nat.le_of_ble_eq_true rfl) d_Md_init_20 (fun q_20 cA_20 H hK hP hD hS => ?_)
  have hP : va_P (dC, dI) classes [(h0, .inr (3, [.int 0, .int 0, .int 0, .int 0, .int 0, .int 0, .int 0, .int 1, .int 0, .int 0, .ref q_12, .null, .int 0, .int 0])), (q_12, .inl (cA_12, 32, .inl (fun _ => 0))), (q_20, .inl (cA_20, 32, .inl (fun _ => 0)))] H := hP
  have hD : va_D A [(h0, .inr (3, [.int 0, .int 0, .int 0, .int 0, .int 0, .int 0, .int 0, .int 1, .int 0, .int 0, .ref q_12, .null, .int 0, .int 0])), (q_12, .inl (cA_12, 32, .inl (fun _ => 0))), (q_20, .inl (cA_20, 32, .inl (fun _ => 0)))] := hD
  have hK : va_K (dC, dI) classes [(cA_12, .int), (cA_20, .int)] s := hK
  refine va_putF (D := (dC, dI)) (ci := 3) (v := .ref q_20) (ty := .array .int) (C := R_Md) (T := F_Md) (N := 14) hx hb hts i_Md t_Md t_Md_ok n_Md hown hK hP hD hS 0 rfl rfl 11 (by decide) (hts _ m_213) (fun _ h9 => h9) rfl hin rfl (by decide +kernel) rfl rfl (Nat.le_of_ble_eq_true rfl) d_Md_init_22 (fun H locs hP hD hS => ?_)
  have hP : va_P (dC, dI) classes [(h0, .inr (3, [.int 0, .int 0, .int 0, .int 0, .int 0, .int 0, .int 0, .int 1, .int 0, .int 0, .ref q_12, .ref q_20, .int 0, .int 0])), (q_12, .inl (cA_12, 32, .inl (fun _ => 0))), (q_20, .inl (cA_20, 32, .inl (fun _ => 0)))] H := hP
  have hD : va_D A [(h0, .inr (3, [.int 0, .int 0, .int 0, .int 0, .int 0, .int 0, .int 0, .int 1, .int 0, .int 0, .ref q_12, .ref q_20, .int 0, .int 0])), (q_12, .inl (cA_12, 32, .inl (fun _ => 0))), (q_20, .inl (cA_20, 32, .inl (fun _ => 0)))] := hD
  refine rt_vret hx hb hr hlocks (q_12, q_20, cA_12, cA_20) trivial (hP.sub [0, 1, 2] rfl) (hK.sub [0, 1] rfl) (hD.sub [0, 1, 2] (by decide) rfl) hS d_Md_init_25
set_option maxHeartbeats 4000000 in
set_option maxRecDepth 100000 in
theorem c_Rt_init (l : Launch) (dC : Nat → ClassId) (dI : Nat → Nat → Nat) (h0 sz : Nat) :
    rt_Cv l y_Rt_init b_Rt_init 1 none ({ frames := 2, cells := 4, slots := 71, locals := 40 } : Room) dC dI [] [(h0, .inr (2, [.null, .null, .int 0, .int 0, .int 0, .int 0, .int 0]))] sz [.ref h0] (fun (u : Nat × Nat × Nat × Nat × ClassId × ClassId) => True) (fun u => [(u.2.2.2.2.1, .int), (u.2.2.2.2.2, .int)]) (fun u => [(h0, .inr (2, [.ref u.1, .ref u.2.1, .int 0, .int 0, .int 1, .int 0, .int 0])), (u.1, .inr (0, [.int 0, .int 0, .int 0, .int 0])), (u.2.1, .inr (1, [.ref u.2.2.1, .ref u.2.2.2.1, .int (nI 0)])), (u.2.2.1, .inl (u.2.2.2.2.1, 32, .inl (fun _ => 0))), (u.2.2.2.1, .inl (u.2.2.2.2.2, 32, .inl (fun _ => 0)))]) 4 71 := by
  refine rt_metv (by decide) (Nat.le_of_ble_eq_true rfl) ?_
  intro p e s m below meth c_ A ls hx hb hr hml hown hts hlocks hin hP hK hD hN hA hS hl
  have hown : s.vm.findClass R_Rt = some m.cls := hown
  have hl : lv_has ls 1 [(0, .ref h0)] := hl
  refine lv_aload_n hx hb d_Rt_init_0 rfl (lv_at hl 0 rfl) ?_
  refine W.objInit hx hb hown (hts _ m_20) (hts _ m_21) (hts _ m_22) rfl (by rw [hml]; exact hl.1) rfl d_Rt_init_1 (Nat.le_of_ble_eq_true rfl) (Nat.le_of_ble_eq_true rfl) ?_
  refine W.eq (g2 := F0 m 4 ls []) rfl ?_
  refine lv_aload_n hx hb d_Rt_init_4 rfl (lv_at hl 0 rfl) ?_
  refine va_new (ci := 0) (fs := [.int 0, .int 0, .int 0, .int 0]) (C := R_Tm) (T := F_Tm) (N := 4) hx hb hts i_Tm t_Tm t_Tm_ok hown (hts _ m_23) (hts _ m_24) (hts _ m_11) hK hP hD hS hA rfl (fun j hj => by rcases (show j = 0 ∨ j = 1 ∨ j = 2 ∨ j = 3 by omega) with rfl | rfl | rfl | rfl <;> rfl) (Nat.le_of_ble_eq_true rfl) (Nat.le_of_ble_eq_true rfl) d_Rt_init_5 (fun q_5 H hP hD hS => ?_)
  have hP : va_P (dC, dI) classes [(h0, .inr (2, [.null, .null, .int 0, .int 0, .int 0, .int 0, .int 0])), (q_5, .inr (0, [.int 0, .int 0, .int 0, .int 0]))] H := hP
  have hD : va_D A [(h0, .inr (2, [.null, .null, .int 0, .int 0, .int 0, .int 0, .int 0])), (q_5, .inr (0, [.int 0, .int 0, .int 0, .int 0]))] := hD
  refine lv_dup hx hb d_Rt_init_8 rfl ?_
  refine rt_gv (wr := [(h0, .inr (2, [.null, .null, .int 0, .int 0, .int 0, .int 0, .int 0]))]) (rt_runIN (rest := [.ref q_5, .ref h0]) ⟨hx, hb, hml, hown, hts⟩ (c_Tm_init l dC dI q_5 H.size 0 0 0 0) m_27 m_11 (hN _ (List.mem_of_getElem? (i := 0) rfl)) m_26 rfl hd_Tm_init.2 ⟨Nat.le_of_ble_eq_true rfl, Nat.le_of_ble_eq_true rfl, rfl, rfl⟩ hP hK hD hN [1] [] (by decide) rfl rfl rfl hl.1 rfl (Nat.le_of_ble_eq_true rfl) d_Rt_init_9 ⟨Nat.le_of_ble_eq_true rfl, Nat.le_of_ble_eq_true rfl⟩) hP hD hS hA [1] [0] rfl rfl (by decide) (by decide) (fun u_9 H locs hw_9 hP hD hS hK1 => ?_)
  have hP : va_P (dC, dI) classes [(h0, .inr (2, [.null, .null, .int 0, .int 0, .int 0, .int 0, .int 0])), (q_5, .inr (0, [.int 0, .int 0, .int 0, .int 0]))] H := hP
  have hD : va_D A [(h0, .inr (2, [.null, .null, .int 0, .int 0, .int 0, .int 0, .int 0])), (q_5, .inr (0, [.int 0, .int 0, .int 0, .int 0]))] := hD
  have hK : va_K (dC, dI) classes [] s := hK.app hK1
  refine va_putF (D := (dC, dI)) (ci := 2) (v := .ref q_5) (ty := .object "RetiredTimer$Timer") (C := R_Rt) (T := F_Rt) (N := 7) hx hb hts i_Rt t_Rt t_Rt_ok n_Rt hown hK hP hD hS 0 rfl rfl 0 (by decide) (hts _ m_74) (fun _ h9 => h9) rfl hin rfl (by decide +kernel) rfl rfl (Nat.le_of_ble_eq_true rfl) d_Rt_init_12 (fun H locs hP hD hS => ?_)
  have hP : va_P (dC, dI) classes [(h0, .inr (2, [.ref q_5, .null, .int 0, .int 0, .int 0, .int 0, .int 0])), (q_5, .inr (0, [.int 0, .int 0, .int 0, .int 0]))] H := hP
  have hD : va_D A [(h0, .inr (2, [.ref q_5, .null, .int 0, .int 0, .int 0, .int 0, .int 0])), (q_5, .inr (0, [.int 0, .int 0, .int 0, .int 0]))] := hD
  refine lv_aload_n hx hb d_Rt_init_15 rfl (lv_at hl 0 rfl) ?_
  refine va_new (ci := 1) (fs := [.null, .null, .int 0]) (C := R_Rw) (T := F_Rw) (N := 3) hx hb hts i_Rw t_Rw t_Rw_ok hown (hts _ m_46) (hts _ m_47) (hts _ m_12) hK hP hD hS hA rfl (fun j hj => by rcases (show j = 0 ∨ j = 1 ∨ j = 2 by omega) with rfl | rfl | rfl <;> rfl) (Nat.le_of_ble_eq_true rfl) (Nat.le_of_ble_eq_true rfl) d_Rt_init_16 (fun q_16 H hP hD hS => ?_)
  have hP : va_P (dC, dI) classes [(h0, .inr (2, [.ref q_5, .null, .int 0, .int 0, .int 0, .int 0, .int 0])), (q_5, .inr (0, [.int 0, .int 0, .int 0, .int 0])), (q_16, .inr (1, [.null, .null, .int 0]))] H := hP
  have hD : va_D A [(h0, .inr (2, [.ref q_5, .null, .int 0, .int 0, .int 0, .int 0, .int 0])), (q_5, .inr (0, [.int 0, .int 0, .int 0, .int 0])), (q_16, .inr (1, [.null, .null, .int 0]))] := hD
  refine lv_dup hx hb d_Rt_init_19 rfl ?_
  refine rt_gv (wr := [(h0, .inr (2, [.ref q_5, .null, .int 0, .int 0, .int 0, .int 0, .int 0])), (q_5, .inr (0, [.int 0, .int 0, .int 0, .int 0]))]) (rt_runIN (rest := [.ref q_16, .ref h0]) ⟨hx, hb, hml, hown, hts⟩ (c_Rw_init l dC dI q_16 H.size 0) m_50 m_12 (hN _ (List.mem_of_getElem? (i := 1) rfl)) m_49 rfl hd_Rw_init.2 ⟨Nat.le_of_ble_eq_true rfl, Nat.le_of_ble_eq_true rfl, rfl, rfl⟩ hP hK hD hN [2] [] (by decide) rfl rfl rfl hl.1 rfl (Nat.le_of_ble_eq_true rfl) d_Rt_init_20 ⟨Nat.le_of_ble_eq_true rfl, Nat.le_of_ble_eq_true rfl⟩) hP hD hS hA [2] [0, 1] rfl rfl (by decide) (by decide) (fun u_20 H locs hw_20 hP hD hS hK1 => ?_)
  obtain ⟨a_20, b_20, cA_20, cB_20⟩ := u_20
  have hP : va_P (dC, dI) classes [(h0, .inr (2, [.ref q_5, .null, .int 0, .int 0, .int 0, .int 0, .int 0])), (q_5, .inr (0, [.int 0, .int 0, .int 0, .int 0])), (q_16, .inr (1, [.ref a_20, .ref b_20, .int 0])), (a_20, .inl (cA_20, 32, .inl (fun _ => 0))), (b_20, .inl (cB_20, 32, .inl (fun _ => 0)))] H := hP
  have hD : va_D A [(h0, .inr (2, [.ref q_5, .null, .int 0, .int 0, .int 0, .int 0, .int 0])), (q_5, .inr (0, [.int 0, .int 0, .int 0, .int 0])), (q_16, .inr (1, [.ref a_20, .ref b_20, .int 0])), (a_20, .inl (cA_20, 32, .inl (fun _ => 0))), (b_20, .inl (cB_20, 32, .inl (fun _ => 0)))] := hD
  have hK : va_K (dC, dI) classes [(cA_20, .int), (cB_20, .int)] s := hK.app hK1
  have hP : va_P (dC, dI) classes [(h0, .inr (2, [.ref q_5, .null, .int 0, .int 0, .int 0, .int 0, .int 0])), (q_5, .inr (0, [.int 0, .int 0, .int 0, .int 0])), (q_16, .inr (1, [.ref a_20, .ref b_20, .int (nI 0)])), (a_20, .inl (cA_20, 32, .inl (fun _ => 0))), (b_20, .inl (cB_20, 32, .inl (fun _ => 0)))] H := hP
  have hD : va_D A [(h0, .inr (2, [.ref q_5, .null, .int 0, .int 0, .int 0, .int 0, .int 0])), (q_5, .inr (0, [.int 0, .int 0, .int 0, .int 0])), (q_16, .inr (1, [.ref a_20, .ref b_20, .int (nI 0)])), (a_20, .inl (cA_20, 32, .inl (fun _ => 0))), (b_20, .inl (cB_20, 32, .inl (fun _ => 0)))] := hD
  refine va_putF (D := (dC, dI)) (ci := 2) (v := .ref q_16) (ty := .object "RetiredTimer$Row") (C := R_Rt) (T := F_Rt) (N := 7) hx hb hts i_Rt t_Rt t_Rt_ok n_Rt hown hK hP hD hS 0 rfl rfl 1 (by decide) (hts _ m_75) (fun _ h9 => h9) rfl hin rfl (by decide +kernel) rfl rfl (Nat.le_of_ble_eq_true rfl) d_Rt_init_23 (fun H locs hP hD hS => ?_)
  have hP : va_P (dC, dI) classes [(h0, .inr (2, [.ref q_5, .ref q_16, .int 0, .int 0, .int 0, .int 0, .int 0])), (q_5, .inr (0, [.int 0, .int 0, .int 0, .int 0])), (q_16, .inr (1, [.ref a_20, .ref b_20, .int (nI 0)])), (a_20, .inl (cA_20, 32, .inl (fun _ => 0))), (b_20, .inl (cB_20, 32, .inl (fun _ => 0)))] H := hP
  have hD : va_D A [(h0, .inr (2, [.ref q_5, .ref q_16, .int 0, .int 0, .int 0, .int 0, .int 0])), (q_5, .inr (0, [.int 0, .int 0, .int 0, .int 0])), (q_16, .inr (1, [.ref a_20, .ref b_20, .int (nI 0)])), (a_20, .inl (cA_20, 32, .inl (fun _ => 0))), (b_20, .inl (cB_20, 32, .inl (fun _ => 0)))] := hD
  refine lv_aload_n hx hb d_Rt_init_26 rfl (lv_at hl 0 rfl) ?_
  refine rt_gv (wr := []) (rt_runV (rest := []) ⟨hx, hb, hml, hown, hts⟩ (c_Rt_reset l dC dI h0 q_5 q_16 a_20 b_20 cA_20 cB_20 H.size 0 0 0 0 0 0 0 0 0 0 (fun _ => 0) (fun _ => 0)) (rt_gV m_66 m_67 m_68 m_10 m_69) hd_Rt_reset ⟨Nat.le_of_ble_eq_true rfl, Nat.le_of_ble_eq_true rfl, rfl, rfl⟩ hP hK hD hN [0, 1, 2, 3, 4] [0, 1] (by decide) rfl rfl rfl rfl rfl hl.1 rfl (Nat.le_of_ble_eq_true rfl) d_Rt_init_27 ⟨Nat.le_of_ble_eq_true rfl, Nat.le_of_ble_eq_true rfl⟩) hP hD hS hA [0, 1, 2, 3, 4] [] rfl rfl (by decide) (by decide) (fun u_27 H locs hw_27 hP hD hS _ => ?_)
  obtain ⟨rt_27, mk_27, sr_27, sv_27, tk_27, pd_27, ct_27, cg_27, pn_27, n_27⟩ := u_27
  try dsimp only at hw_27
  obtain ⟨w0_27, w1_27, w2_27, w3_27, w4_27, w5_27, w6_27, w7_27, w8_27, w9_27⟩ := hw_27
  obtain rfl := w0_27.symm
  obtain rfl := w1_27.symm
  obtain rfl := w2_27.symm
  obtain rfl := w3_27.symm
  obtain rfl := w4_27.symm
  obtain rfl := w5_27.symm
  obtain rfl := w6_27.symm
  obtain rfl := w7_27.symm
  obtain rfl := w8_27.symm
  obtain rfl := w9_27.symm
  have hP : va_P (dC, dI) classes [(h0, .inr (2, [.ref q_5, .ref q_16, .int 0, .int 0, .int 1, .int 0, .int 0])), (q_5, .inr (0, [.int 0, .int 0, .int 0, .int 0])), (q_16, .inr (1, [.ref a_20, .ref b_20, .int (nI 0)])), (a_20, .inl (cA_20, 32, .inl (fun _ => 0))), (b_20, .inl (cB_20, 32, .inl (fun _ => 0)))] H := hP
  have hD : va_D A [(h0, .inr (2, [.ref q_5, .ref q_16, .int 0, .int 0, .int 1, .int 0, .int 0])), (q_5, .inr (0, [.int 0, .int 0, .int 0, .int 0])), (q_16, .inr (1, [.ref a_20, .ref b_20, .int (nI 0)])), (a_20, .inl (cA_20, 32, .inl (fun _ => 0))), (b_20, .inl (cB_20, 32, .inl (fun _ => 0)))] := hD
  refine rt_vret hx hb hr hlocks (q_5, q_16, a_20, b_20, cA_20, cB_20) trivial (hP.sub [0, 1, 2, 3, 4] rfl) (hK.sub [0, 1] rfl) (hD.sub [0, 1, 2, 3, 4] (by decide) rfl) hS d_Rt_init_30
end
section
def rt_1c (pd ct cg : Int32) : Int32 := if cg = 0 then ct else if ct + 1 = pd then 0 else ct + 1
def rt_1p (pd ct cg pn : Int32) : Int32 := if cg = 0 then pn else if ct + 1 = pd then 1 else pn
theorem rt_okd {f : Nat → Int32} {n : Nat} {a : Int32} (h : rt_ok f n a = true) : ¬ a < 0 ∧ ¬ n = 32 ∧ (n = 0 ∨ f (n - 1) < a) := of_decide_eq_true h
theorem rt_lt_t {a b c : Int32} (h1 : a < b) (h2 : b < c) : a < c := by
  rw [Int32.lt_iff_toInt_lt] at *
  omega
theorem rt_le_t {a b c : Int32} (h1 : a < b) (h2 : b ≤ c) : a ≤ c := by
  rw [Int32.lt_iff_toInt_lt] at h1
  rw [Int32.le_iff_toInt_le] at *
  omega
theorem rt_le_lt {a b c : Int32} (h1 : a ≤ b) (h2 : b < c) : a < c := by
  rw [Int32.lt_iff_toInt_lt] at *
  rw [Int32.le_iff_toInt_le] at h1
  omega
theorem rt_so_in {f : Nat → Int32} {n : Nat} {a : Int32} (hs : rt_so f n) (ho : rt_ok f n a = true) : rt_so (upd f n a) (n + 1) := by
  obtain ⟨-, -, h3⟩ := rt_okd ho
  intro j k hjk hk
  by_cases hkn : k = n
  · subst hkn
    rw [pk_us, pk_un (by omega)]
    rcases h3 with h3 | h3
    · omega
    · by_cases hj : j = k - 1
      · rw [hj]; exact h3
      · exact rt_lt_t (hs j (k - 1) (by omega) (by omega)) h3
  · rw [pk_un hkn, pk_un (by omega)]
    exact hs j k hjk (by omega)
theorem rt_cut_in {f : Nat → Int32} {n c : Nat} {x a : Int32} (hs : rt_so f n) (hc : rt_cut f n x c) (ho : rt_ok f n a = true) : ∃ c1, rt_cut (upd f n a) (n + 1) x c1 ∧ c ≤ c1 := by
  obtain ⟨h1, h2, h3⟩ := hc
  by_cases ha : c = n ∧ a ≤ x
  · refine ⟨n + 1, ⟨Nat.le_refl _, fun k hk => ?_, fun k hk hk2 => by omega⟩, by omega⟩
    by_cases hkn : k = n
    · rw [hkn, pk_us]; exact ha.2
    · rw [pk_un hkn]; exact h2 k (by omega)
  · refine ⟨c, ⟨by omega, fun k hk => by rw [pk_un (by omega)]; exact h2 k hk, fun k hk hk2 => ?_⟩, Nat.le_refl _⟩
    by_cases hkn : k = n
    · rw [hkn, pk_us]
      by_cases hcn : c = n
      · have hna : ¬ a ≤ x := fun q => ha ⟨hcn, q⟩
        exact Decidable.byContradiction fun q => hna (rt_nlt.mp q)
      · have hx : x < f (n - 1) := h3 (n - 1) (by omega) (by omega)
        obtain ⟨-, -, h5⟩ := rt_okd ho
        rcases h5 with h5 | h5
        · omega
        · exact rt_lt_t hx h5
    · rw [pk_un hkn]; exact h3 k hk (by omega)
end
section
set_option maxHeartbeats 4000000 in
set_option maxRecDepth 100000 in
theorem c_Md_goOn (l : Launch) (dC : Nat → ClassId) (dI : Nat → Nat → Nat) (h0 h1 h2 : Nat) (cC cV : ClassId) (sz : Nat) (rt ct pd cg pn mk sr sv tk : Int32) (n c : Nat) (f g : Nat → Int32) (c1 : Nat) (hn : n ≤ 32) (hcc : c ≤ c1) (hc : rt_cut f n rt c1) :
    rt_Cv l y_Md_goOn b_Md_goOn 1 none ({ frames := 0, cells := 0, slots := 0, locals := 0 } : Room) dC dI [(cC, .int), (cV, .int)] [(h0, .inr (3, [.int 0, .int rt, .int ct, .int pd, .int cg, .int pn, .int mk, .int sr, .int sv, .int tk, .ref h1, .ref h2, .int (nI n), .int (nI c)])), (h1, .inl (cC, 32, .inl f)), (h2, .inl (cV, 32, .inl g))] sz [.ref h0] (fun (u : Nat) => u = c1) (fun _ => [(cC, .int), (cV, .int)]) (fun u => [(h0, .inr (3, [.int 0, .int rt, .int ct, .int pd, .int cg, .int pn, .int mk, .int sr, .int sv, .int tk, .ref h1, .ref h2, .int (nI n), .int (nI u)])), (h1, .inl (cC, 32, .inl f)), (h2, .inl (cV, 32, .inl g))]) 0 0 := by
  refine rt_metv (by decide) (Nat.le_of_ble_eq_true rfl) ?_
  intro p e s m below meth c_ A ls hx hb hr hml hown hts hlocks hin hP hK hD hN hA hS hl
  have hown : s.vm.findClass R_Md = some m.cls := hown
  have hl : lv_has ls 1 [(0, .ref h0)] := hl
  refine rt_loop (σ := Nat) (fun j => c1 - j) (fun j H' locs' ls' => j ≤ c1 ∧ va_P (dC, dI) classes [(h0, .inr (3, [.int 0, .int rt, .int ct, .int pd, .int cg, .int pn, .int mk, .int sr, .int sv, .int tk, .ref h1, .ref h2, .int (nI n), .int (nI j)])), (h1, .inl (cC, 32, .inl f)), (h2, .inl (cV, 32, .inl g))] H' ∧ va_D A [(h0, .inr (3, [.int 0, .int rt, .int ct, .int pd, .int cg, .int pn, .int mk, .int sr, .int sv, .int tk, .ref h1, .ref h2, .int (nI n), .int (nI j)])), (h1, .inl (cC, 32, .inl f)), (h2, .inl (cV, 32, .inl g))] ∧ va_S A s.heap H' locs' ∧ lv_has ls' 1 [(0, .ref h0)]) ?_ c _ _ _ ⟨hcc, hP, hD, hS, hl⟩
  intro j H locs ls hz ih
  obtain ⟨z1, hP, hD, hS, hl⟩ := hz
  have hc1 := hc.1
  refine lv_aload_n hx hb d_Md_goOn_0 rfl (lv_at hl 0 rfl) ?_
  refine va_get (D := (dC, dI)) (ci := 3) (v := .int (nI j)) (C := R_Md) (T := F_Md) (N := 14) hx hb hts i_Md hown hK hP 0 rfl rfl 13 (by decide) (hts _ m_215) (fun _ h9 => h9) rfl d_Md_goOn_1 ?_
  refine lv_aload_n hx hb d_Md_goOn_4 rfl (lv_at hl 0 rfl) ?_
  refine va_get (D := (dC, dI)) (ci := 3) (v := .int (nI n)) (C := R_Md) (T := F_Md) (N := 14) hx hb hts i_Md hown hK hP 0 rfl rfl 12 (by decide) (hts _ m_214) (fun _ h9 => h9) rfl d_Md_goOn_5 ?_
  refine lv_icmp_ge (tgt := 40) hx hb d_Md_goOn_8 (by decide) (fun c_8 => ?_) (fun c_8 => ?_)
  · rw [nI_leI (by omega) (by omega)] at c_8
    have hm : j = c1 := by omega
    refine rt_vret hx hb hr hlocks j ?_ hP hK hD hS d_Md_goOn_40
    exact hm
  · rw [nI_leI (by omega) (by omega)] at c_8
    refine lv_aload_n hx hb d_Md_goOn_11 rfl (lv_at hl 0 rfl) ?_
    refine va_get (D := (dC, dI)) (ci := 3) (v := .ref h1) (C := R_Md) (T := F_Md) (N := 14) hx hb hts i_Md hown hK hP 0 rfl rfl 10 (by decide) (hts _ m_212) (fun _ h9 => h9) rfl d_Md_goOn_12 ?_
    refine lv_aload_n hx hb d_Md_goOn_15 rfl (lv_at hl 0 rfl) ?_
    refine va_get (D := (dC, dI)) (ci := 3) (v := .int (nI j)) (C := R_Md) (T := F_Md) (N := 14) hx hb hts i_Md hown hK hP 0 rfl rfl 13 (by decide) (hts _ m_215) (fun _ h9 => h9) rfl d_Md_goOn_16 ?_
    refine rt_iald hx hb hK hP 1 0 rfl rfl j rfl (by omega) (by decide) d_Md_goOn_19 ?_
    refine lv_aload_n hx hb d_Md_goOn_20 rfl (lv_at hl 0 rfl) ?_
    refine va_get (D := (dC, dI)) (ci := 3) (v := .int rt) (C := R_Md) (T := F_Md) (N := 14) hx hb hts i_Md hown hK hP 0 rfl rfl 1 (by decide) (hts _ m_203) (fun _ h9 => h9) rfl d_Md_goOn_21 ?_
    refine lv_icmp_gt (tgt := 40) hx hb d_Md_goOn_24 (by decide) (fun c_24 => ?_) (fun c_24 => ?_)
    · have hm : j = c1 := by
        rcases Nat.lt_or_ge j c1 with q | q
        · exact absurd c_24 (rt_nlt.mpr (hc.2.1 _ q))
        · omega
      refine rt_vret hx hb hr hlocks j ?_ hP hK hD hS d_Md_goOn_40
      exact hm
    · have hm : j < c1 := by
        rcases Nat.lt_or_ge j c1 with q | q
        · exact q
        · exact absurd (hc.2.2 _ q (by omega)) c_24
      refine lv_aload_n hx hb d_Md_goOn_27 rfl (lv_at hl 0 rfl) ?_
      refine lv_dup hx hb d_Md_goOn_28 rfl ?_
      refine va_get (D := (dC, dI)) (ci := 3) (v := .int (nI j)) (C := R_Md) (T := F_Md) (N := 14) hx hb hts i_Md hown hK hP 0 rfl rfl 13 (by decide) (hts _ m_215) (fun _ h9 => h9) rfl d_Md_goOn_29 ?_
      refine lv_iconst (v := 1) hx hb d_Md_goOn_32 (by decide) ?_
      refine lv_iadd hx hb d_Md_goOn_33 ?_
      refine rt_topi (nI (j + 1)) (nI_1 j) ?_
      refine va_put (D := (dC, dI)) (ci := 3) (v := .int (nI (j + 1))) (ty := .int) (C := R_Md) (T := F_Md) (N := 14) hx hb hts i_Md t_Md t_Md_ok n_Md hown hK hP hD hS 0 rfl rfl 13 (by decide) (hts _ m_215) (fun _ h9 => h9) rfl (by decide +kernel) rfl rfl (Nat.le_of_ble_eq_true rfl) d_Md_goOn_34 (fun H locs hP hD hS => ?_)
      have hP : va_P (dC, dI) classes [(h0, .inr (3, [.int 0, .int rt, .int ct, .int pd, .int cg, .int pn, .int mk, .int sr, .int sv, .int tk, .ref h1, .ref h2, .int (nI n), .int (nI (j + 1))])), (h1, .inl (cC, 32, .inl f)), (h2, .inl (cV, 32, .inl g))] H := hP
      have hD : va_D A [(h0, .inr (3, [.int 0, .int rt, .int ct, .int pd, .int cg, .int pn, .int mk, .int sr, .int sv, .int tk, .ref h1, .ref h2, .int (nI n), .int (nI (j + 1))])), (h1, .inl (cC, 32, .inl f)), (h2, .inl (cV, 32, .inl g))] := hD
      refine lv_goto (tgt := 0) hx hb d_Md_goOn_37 (by decide) ?_
      exact ih (j + 1) _ _ _ (by omega) ⟨by omega, hP, hD, hS, hl⟩
set_option maxHeartbeats 4000000 in
set_option maxRecDepth 100000 in
theorem c_Md_linesNow (l : Launch) (dC : Nat → ClassId) (dI : Nat → Nat → Nat) (h0 h1 h2 : Nat) (cC cV : ClassId) (sz : Nat) (rt ct pd cg pn mk sr sv tk : Int32) (n c : Nat) (f g : Nat → Int32) (hn : n ≤ 32) (hcn : c ≤ n) :
    rt_Ci l y_Md_linesNow b_Md_linesNow 1 (some .int) ({ frames := 0, cells := 0, slots := 0, locals := 0 } : Room) dC dI [(cC, .int), (cV, .int)] [(h0, .inr (3, [.int 0, .int rt, .int ct, .int pd, .int cg, .int pn, .int mk, .int sr, .int sv, .int tk, .ref h1, .ref h2, .int (nI n), .int (nI c)])), (h1, .inl (cC, 32, .inl f)), (h2, .inl (cV, 32, .inl g))] sz [.ref h0] (fun (r : Int32) (u : Unit) => r = rt_lv g c) (fun _ => [(cC, .int), (cV, .int)]) (fun u => [(h0, .inr (3, [.int 0, .int rt, .int ct, .int pd, .int cg, .int pn, .int mk, .int sr, .int sv, .int tk, .ref h1, .ref h2, .int (nI n), .int (nI c)])), (h1, .inl (cC, 32, .inl f)), (h2, .inl (cV, 32, .inl g))]) 0 0 := by
  refine rt_meti (by decide) (Nat.le_of_ble_eq_true rfl) ?_
  intro p e s m below meth c_ A ls hx hb hr hml hown hts hlocks hin hP hK hD hN hA hS hl
  have hown : s.vm.findClass R_Md = some m.cls := hown
  have hl : lv_has ls 1 [(0, .ref h0)] := hl
  refine lv_aload_n hx hb d_Md_linesNow_0 rfl (lv_at hl 0 rfl) ?_
  refine va_get (D := (dC, dI)) (ci := 3) (v := .int (nI c)) (C := R_Md) (T := F_Md) (N := 14) hx hb hts i_Md hown hK hP 0 rfl rfl 13 (by decide) (hts _ m_215) (fun _ h9 => h9) rfl d_Md_linesNow_1 ?_
  refine lv_if_le (tgt := 21) hx hb d_Md_linesNow_4 (by decide) (fun c_4 => ?_) (fun c_4 => ?_)
  · rw [rt_n0 (by omega)] at c_4
    refine lv_iconst (v := 0) hx hb d_Md_linesNow_21 (by decide) ?_
    refine rt_iret hx hb hr hlocks () ?_ hP hK hD hS d_Md_linesNow_22
    try dsimp only
    exact by simp only [rt_lv, if_pos c_4, eq_self, and_self]
  · rw [rt_n0 (by omega)] at c_4
    refine lv_aload_n hx hb d_Md_linesNow_7 rfl (lv_at hl 0 rfl) ?_
    refine va_get (D := (dC, dI)) (ci := 3) (v := .ref h2) (C := R_Md) (T := F_Md) (N := 14) hx hb hts i_Md hown hK hP 0 rfl rfl 11 (by decide) (hts _ m_213) (fun _ h9 => h9) rfl d_Md_linesNow_8 ?_
    refine lv_aload_n hx hb d_Md_linesNow_11 rfl (lv_at hl 0 rfl) ?_
    refine va_get (D := (dC, dI)) (ci := 3) (v := .int (nI c)) (C := R_Md) (T := F_Md) (N := 14) hx hb hts i_Md hown hK hP 0 rfl rfl 13 (by decide) (hts _ m_215) (fun _ h9 => h9) rfl d_Md_linesNow_12 ?_
    refine lv_iconst (v := 1) hx hb d_Md_linesNow_15 (by decide) ?_
    refine lv_isub hx hb d_Md_linesNow_16 ?_
    refine rt_iald hx hb hK hP 2 1 rfl rfl (c - 1) (rt_pm c_4) (by omega) (by decide) d_Md_linesNow_17 ?_
    refine lv_goto (tgt := 22) hx hb d_Md_linesNow_18 (by decide) ?_
    refine rt_iret hx hb hr hlocks () ?_ hP hK hD hS d_Md_linesNow_22
    try dsimp only
    exact by simp only [rt_lv, if_neg c_4, eq_self, and_self]
set_option maxHeartbeats 4000000 in
set_option maxRecDepth 100000 in
theorem c_Md_due (l : Launch) (dC : Nat → ClassId) (dI : Nat → Nat → Nat) (h0 h1 h2 : Nat) (cC cV : ClassId) (sz : Nat) (rt ct pd cg pn mk sr sv tk : Int32) (n c : Nat) (f g : Nat → Int32) (hn : n ≤ 32) (hcn : c ≤ n) :
    rt_Ci l y_Md_due b_Md_due 1 (some .int) ({ frames := 1, cells := 0, slots := 0, locals := 20 } : Room) dC dI [(cC, .int), (cV, .int)] [(h0, .inr (3, [.int 0, .int rt, .int ct, .int pd, .int cg, .int pn, .int mk, .int sr, .int sv, .int tk, .ref h1, .ref h2, .int (nI n), .int (nI c)])), (h1, .inl (cC, 32, .inl f)), (h2, .inl (cV, 32, .inl g))] sz [.ref h0] (fun (r : Int32) (u : Unit) => r = rt_dm sr pn mk (rt_lv g c)) (fun _ => [(cC, .int), (cV, .int)]) (fun u => [(h0, .inr (3, [.int 0, .int rt, .int ct, .int pd, .int cg, .int pn, .int mk, .int sr, .int sv, .int tk, .ref h1, .ref h2, .int (nI n), .int (nI c)])), (h1, .inl (cC, 32, .inl f)), (h2, .inl (cV, 32, .inl g))]) 0 0 := by
  refine rt_meti (by decide) (Nat.le_of_ble_eq_true rfl) ?_
  intro p e s m below meth c_ A ls hx hb hr hml hown hts hlocks hin hP hK hD hN hA hS hl
  have hown : s.vm.findClass R_Md = some m.cls := hown
  have hl : lv_has ls 1 [(0, .ref h0)] := hl
  refine lv_aload_n hx hb d_Md_due_0 rfl (lv_at hl 0 rfl) ?_
  refine va_get (D := (dC, dI)) (ci := 3) (v := .int sr) (C := R_Md) (T := F_Md) (N := 14) hx hb hts i_Md hown hK hP 0 rfl rfl 7 (by decide) (hts _ m_209) (fun _ h9 => h9) rfl d_Md_due_1 ?_
  refine lv_iconst (v := 2) hx hb d_Md_due_4 (by decide) ?_
  refine lv_iand hx hb d_Md_due_5 ?_
  refine lv_if_eq (tgt := 18) hx hb d_Md_due_6 (by decide) (fun c_6 => ?_) (fun c_6 => ?_)
  · refine lv_aload_n hx hb d_Md_due_18 rfl (lv_at hl 0 rfl) ?_
    refine va_get (D := (dC, dI)) (ci := 3) (v := .int sr) (C := R_Md) (T := F_Md) (N := 14) hx hb hts i_Md hown hK hP 0 rfl rfl 7 (by decide) (hts _ m_209) (fun _ h9 => h9) rfl d_Md_due_19 ?_
    refine lv_iconst (v := 4) hx hb d_Md_due_22 (by decide) ?_
    refine lv_iand hx hb d_Md_due_23 ?_
    refine lv_if_eq (tgt := 44) hx hb d_Md_due_24 (by decide) (fun c_24 => ?_) (fun c_24 => ?_)
    · refine lv_iconst (v := 0) hx hb d_Md_due_44 (by decide) ?_
      refine rt_iret hx hb hr hlocks () ?_ hP hK hD hS d_Md_due_45
      try dsimp only
      exact by simp [rt_dm, c_6, c_24]
    · refine lv_aload_n hx hb d_Md_due_27 rfl (lv_at hl 0 rfl) ?_
      refine rt_gi (wr := []) (rt_runV (rest := []) ⟨hx, hb, hml, hown, hts⟩ (c_Md_linesNow l dC dI h0 h1 h2 cC cV s.heap.size rt ct pd cg pn mk sr sv tk n c f g hn hcn) (rt_gV m_262 m_264 m_7 m_13 m_265) hd_Md_linesNow ⟨Nat.le_of_ble_eq_true rfl, Nat.le_of_ble_eq_true rfl, rfl, rfl⟩ hP hK hD hN [0, 1, 2] [0, 1] (by decide) rfl rfl rfl rfl rfl hl.1 rfl (Nat.le_of_ble_eq_true rfl) d_Md_due_28 ⟨Nat.le_of_ble_eq_true rfl, Nat.le_of_ble_eq_true rfl⟩) hP hD hS hA [0, 1, 2] [] rfl rfl (by decide) (by decide) (fun r_28 u_28 H locs hw_28 hP hD hS _ => ?_)
      try dsimp only at hw_28
      have w0_28 := hw_28
      obtain rfl := w0_28.symm
      have hP : va_P (dC, dI) classes [(h0, .inr (3, [.int 0, .int rt, .int ct, .int pd, .int cg, .int pn, .int mk, .int sr, .int sv, .int tk, .ref h1, .ref h2, .int (nI n), .int (nI c)])), (h1, .inl (cC, 32, .inl f)), (h2, .inl (cV, 32, .inl g))] H := hP
      have hD : va_D A [(h0, .inr (3, [.int 0, .int rt, .int ct, .int pd, .int cg, .int pn, .int mk, .int sr, .int sv, .int tk, .ref h1, .ref h2, .int (nI n), .int (nI c)])), (h1, .inl (cC, 32, .inl f)), (h2, .inl (cV, 32, .inl g))] := hD
      refine lv_aload_n hx hb d_Md_due_31 rfl (lv_at hl 0 rfl) ?_
      refine va_get (D := (dC, dI)) (ci := 3) (v := .int mk) (C := R_Md) (T := F_Md) (N := 14) hx hb hts i_Md hown hK hP 0 rfl rfl 6 (by decide) (hts _ m_208) (fun _ h9 => h9) rfl d_Md_due_32 ?_
      refine lv_iand hx hb d_Md_due_35 ?_
      refine lv_if_eq (tgt := 44) hx hb d_Md_due_36 (by decide) (fun c_36 => ?_) (fun c_36 => ?_)
      · refine lv_iconst (v := 0) hx hb d_Md_due_44 (by decide) ?_
        refine rt_iret hx hb hr hlocks () ?_ hP hK hD hS d_Md_due_45
        try dsimp only
        exact by simp [rt_dm, c_6, c_24, c_36]
      · refine lv_bipush (v := 8) hx hb d_Md_due_39 (by decide) ?_
        refine lv_goto (tgt := 45) hx hb d_Md_due_41 (by decide) ?_
        refine rt_iret hx hb hr hlocks () ?_ hP hK hD hS d_Md_due_45
        try dsimp only
        exact by simp [rt_dm, c_6, c_24, c_36]
  · refine lv_aload_n hx hb d_Md_due_9 rfl (lv_at hl 0 rfl) ?_
    refine va_get (D := (dC, dI)) (ci := 3) (v := .int pn) (C := R_Md) (T := F_Md) (N := 14) hx hb hts i_Md hown hK hP 0 rfl rfl 5 (by decide) (hts _ m_207) (fun _ h9 => h9) rfl d_Md_due_10 ?_
    refine lv_if_eq (tgt := 18) hx hb d_Md_due_13 (by decide) (fun c_13 => ?_) (fun c_13 => ?_)
    · refine lv_aload_n hx hb d_Md_due_18 rfl (lv_at hl 0 rfl) ?_
      refine va_get (D := (dC, dI)) (ci := 3) (v := .int sr) (C := R_Md) (T := F_Md) (N := 14) hx hb hts i_Md hown hK hP 0 rfl rfl 7 (by decide) (hts _ m_209) (fun _ h9 => h9) rfl d_Md_due_19 ?_
      refine lv_iconst (v := 4) hx hb d_Md_due_22 (by decide) ?_
      refine lv_iand hx hb d_Md_due_23 ?_
      refine lv_if_eq (tgt := 44) hx hb d_Md_due_24 (by decide) (fun c_24 => ?_) (fun c_24 => ?_)
      · refine lv_iconst (v := 0) hx hb d_Md_due_44 (by decide) ?_
        refine rt_iret hx hb hr hlocks () ?_ hP hK hD hS d_Md_due_45
        try dsimp only
        exact by simp [rt_dm, c_6, c_13, c_24]
      · refine lv_aload_n hx hb d_Md_due_27 rfl (lv_at hl 0 rfl) ?_
        refine rt_gi (wr := []) (rt_runV (rest := []) ⟨hx, hb, hml, hown, hts⟩ (c_Md_linesNow l dC dI h0 h1 h2 cC cV s.heap.size rt ct pd cg pn mk sr sv tk n c f g hn hcn) (rt_gV m_262 m_264 m_7 m_13 m_265) hd_Md_linesNow ⟨Nat.le_of_ble_eq_true rfl, Nat.le_of_ble_eq_true rfl, rfl, rfl⟩ hP hK hD hN [0, 1, 2] [0, 1] (by decide) rfl rfl rfl rfl rfl hl.1 rfl (Nat.le_of_ble_eq_true rfl) d_Md_due_28 ⟨Nat.le_of_ble_eq_true rfl, Nat.le_of_ble_eq_true rfl⟩) hP hD hS hA [0, 1, 2] [] rfl rfl (by decide) (by decide) (fun r_28 u_28 H locs hw_28 hP hD hS _ => ?_)
        try dsimp only at hw_28
        have w0_28 := hw_28
        obtain rfl := w0_28.symm
        have hP : va_P (dC, dI) classes [(h0, .inr (3, [.int 0, .int rt, .int ct, .int pd, .int cg, .int pn, .int mk, .int sr, .int sv, .int tk, .ref h1, .ref h2, .int (nI n), .int (nI c)])), (h1, .inl (cC, 32, .inl f)), (h2, .inl (cV, 32, .inl g))] H := hP
        have hD : va_D A [(h0, .inr (3, [.int 0, .int rt, .int ct, .int pd, .int cg, .int pn, .int mk, .int sr, .int sv, .int tk, .ref h1, .ref h2, .int (nI n), .int (nI c)])), (h1, .inl (cC, 32, .inl f)), (h2, .inl (cV, 32, .inl g))] := hD
        refine lv_aload_n hx hb d_Md_due_31 rfl (lv_at hl 0 rfl) ?_
        refine va_get (D := (dC, dI)) (ci := 3) (v := .int mk) (C := R_Md) (T := F_Md) (N := 14) hx hb hts i_Md hown hK hP 0 rfl rfl 6 (by decide) (hts _ m_208) (fun _ h9 => h9) rfl d_Md_due_32 ?_
        refine lv_iand hx hb d_Md_due_35 ?_
        refine lv_if_eq (tgt := 44) hx hb d_Md_due_36 (by decide) (fun c_36 => ?_) (fun c_36 => ?_)
        · refine lv_iconst (v := 0) hx hb d_Md_due_44 (by decide) ?_
          refine rt_iret hx hb hr hlocks () ?_ hP hK hD hS d_Md_due_45
          try dsimp only
          exact by simp [rt_dm, c_6, c_13, c_24, c_36]
        · refine lv_bipush (v := 8) hx hb d_Md_due_39 (by decide) ?_
          refine lv_goto (tgt := 45) hx hb d_Md_due_41 (by decide) ?_
          refine rt_iret hx hb hr hlocks () ?_ hP hK hD hS d_Md_due_45
          try dsimp only
          exact by simp [rt_dm, c_6, c_13, c_24, c_36]
    · refine lv_iconst (v := 5) hx hb d_Md_due_16 (by decide) ?_
      refine rt_iret hx hb hr hlocks () ?_ hP hK hD hS d_Md_due_17
      try dsimp only
      exact by simp [rt_dm, c_6, c_13]
set_option maxHeartbeats 4000000 in
set_option maxRecDepth 100000 in
theorem c_Md_step (l : Launch) (dC : Nat → ClassId) (dI : Nat → Nat → Nat) (h0 h1 h2 : Nat) (cC cV : ClassId) (sz : Nat) (rt ct pd cg pn mk sr sv tk : Int32) (n c : Nat) (f g : Nat → Int32) (c1 : Nat) (hn : n ≤ 32) (hcc : c ≤ c1) (hc : rt_cut f n (rt + 1) c1) :
    rt_Cv l y_Md_step b_Md_step 1 none ({ frames := 1, cells := 0, slots := 0, locals := 20 } : Room) dC dI [(cC, .int), (cV, .int)] [(h0, .inr (3, [.int 0, .int rt, .int ct, .int pd, .int cg, .int pn, .int mk, .int sr, .int sv, .int tk, .ref h1, .ref h2, .int (nI n), .int (nI c)])), (h1, .inl (cC, 32, .inl f)), (h2, .inl (cV, 32, .inl g))] sz [.ref h0] (fun (u : Int32 × Int32 × Int32 × Nat) => u.1 = rt + 1 ∧ u.2.1 = rt_1c pd ct cg ∧ u.2.2.1 = rt_1p pd ct cg pn ∧ u.2.2.2 = c1) (fun _ => [(cC, .int), (cV, .int)]) (fun u => [(h0, .inr (3, [.int 0, .int u.1, .int u.2.1, .int pd, .int cg, .int u.2.2.1, .int mk, .int sr, .int sv, .int tk, .ref h1, .ref h2, .int (nI n), .int (nI u.2.2.2)])), (h1, .inl (cC, 32, .inl f)), (h2, .inl (cV, 32, .inl g))]) 0 0 := by
  refine rt_metv (by decide) (Nat.le_of_ble_eq_true rfl) ?_
  intro p e s m below meth c_ A ls hx hb hr hml hown hts hlocks hin hP hK hD hN hA hS hl
  have hown : s.vm.findClass R_Md = some m.cls := hown
  have hl : lv_has ls 1 [(0, .ref h0)] := hl
  refine lv_aload_n hx hb d_Md_step_0 rfl (lv_at hl 0 rfl) ?_
  refine lv_dup hx hb d_Md_step_1 rfl ?_
  refine va_get (D := (dC, dI)) (ci := 3) (v := .int rt) (C := R_Md) (T := F_Md) (N := 14) hx hb hts i_Md hown hK hP 0 rfl rfl 1 (by decide) (hts _ m_203) (fun _ h9 => h9) rfl d_Md_step_2 ?_
  refine lv_iconst (v := 1) hx hb d_Md_step_5 (by decide) ?_
  refine lv_iadd hx hb d_Md_step_6 ?_
  refine va_put (D := (dC, dI)) (ci := 3) (v := .int (rt + 1)) (ty := .int) (C := R_Md) (T := F_Md) (N := 14) hx hb hts i_Md t_Md t_Md_ok n_Md hown hK hP hD hS 0 rfl rfl 1 (by decide) (hts _ m_203) (fun _ h9 => h9) rfl (by decide +kernel) rfl rfl (Nat.le_of_ble_eq_true rfl) d_Md_step_7 (fun H locs hP hD hS => ?_)
  have hP : va_P (dC, dI) classes [(h0, .inr (3, [.int 0, .int (rt + 1), .int ct, .int pd, .int cg, .int pn, .int mk, .int sr, .int sv, .int tk, .ref h1, .ref h2, .int (nI n), .int (nI c)])), (h1, .inl (cC, 32, .inl f)), (h2, .inl (cV, 32, .inl g))] H := hP
  have hD : va_D A [(h0, .inr (3, [.int 0, .int (rt + 1), .int ct, .int pd, .int cg, .int pn, .int mk, .int sr, .int sv, .int tk, .ref h1, .ref h2, .int (nI n), .int (nI c)])), (h1, .inl (cC, 32, .inl f)), (h2, .inl (cV, 32, .inl g))] := hD
  refine lv_aload_n hx hb d_Md_step_10 rfl (lv_at hl 0 rfl) ?_
  refine va_get (D := (dC, dI)) (ci := 3) (v := .int cg) (C := R_Md) (T := F_Md) (N := 14) hx hb hts i_Md hown hK hP 0 rfl rfl 4 (by decide) (hts _ m_206) (fun _ h9 => h9) rfl d_Md_step_11 ?_
  refine lv_if_eq (tgt := 48) hx hb d_Md_step_14 (by decide) (fun c_14 => ?_) (fun c_14 => ?_)
  · refine lv_aload_n hx hb d_Md_step_48 rfl (lv_at hl 0 rfl) ?_
    refine rt_gv (wr := []) (rt_runV (rest := []) ⟨hx, hb, hml, hown, hts⟩ (c_Md_goOn l dC dI h0 h1 h2 cC cV H.size (rt + 1) ct pd cg pn mk sr sv tk n c f g c1 hn hcc hc) (rt_gV m_249 m_251 m_5 m_13 m_252) hd_Md_goOn ⟨Nat.le_of_ble_eq_true rfl, Nat.le_of_ble_eq_true rfl, rfl, rfl⟩ hP hK hD hN [0, 1, 2] [0, 1] (by decide) rfl rfl rfl rfl rfl hl.1 rfl (Nat.le_of_ble_eq_true rfl) d_Md_step_49 ⟨Nat.le_of_ble_eq_true rfl, Nat.le_of_ble_eq_true rfl⟩) hP hD hS hA [0, 1, 2] [] rfl rfl (by decide) (by decide) (fun c_49 H locs hw_49 hP hD hS _ => ?_)
    try dsimp only at hw_49
    have w0_49 := hw_49
    obtain rfl := w0_49.symm
    have hP : va_P (dC, dI) classes [(h0, .inr (3, [.int 0, .int (rt + 1), .int ct, .int pd, .int cg, .int pn, .int mk, .int sr, .int sv, .int tk, .ref h1, .ref h2, .int (nI n), .int (nI c1)])), (h1, .inl (cC, 32, .inl f)), (h2, .inl (cV, 32, .inl g))] H := hP
    have hD : va_D A [(h0, .inr (3, [.int 0, .int (rt + 1), .int ct, .int pd, .int cg, .int pn, .int mk, .int sr, .int sv, .int tk, .ref h1, .ref h2, .int (nI n), .int (nI c1)])), (h1, .inl (cC, 32, .inl f)), (h2, .inl (cV, 32, .inl g))] := hD
    refine rt_vret hx hb hr hlocks ((rt + 1), ct, pn, c1) ?_ hP hK hD hS d_Md_step_52
    try dsimp only
    exact by simp only [rt_1c, rt_1p, if_pos c_14, eq_self, and_self]
  · refine lv_aload_n hx hb d_Md_step_17 rfl (lv_at hl 0 rfl) ?_
    refine lv_dup hx hb d_Md_step_18 rfl ?_
    refine va_get (D := (dC, dI)) (ci := 3) (v := .int ct) (C := R_Md) (T := F_Md) (N := 14) hx hb hts i_Md hown hK hP 0 rfl rfl 2 (by decide) (hts _ m_204) (fun _ h9 => h9) rfl d_Md_step_19 ?_
    refine lv_iconst (v := 1) hx hb d_Md_step_22 (by decide) ?_
    refine lv_iadd hx hb d_Md_step_23 ?_
    refine va_put (D := (dC, dI)) (ci := 3) (v := .int (ct + 1)) (ty := .int) (C := R_Md) (T := F_Md) (N := 14) hx hb hts i_Md t_Md t_Md_ok n_Md hown hK hP hD hS 0 rfl rfl 2 (by decide) (hts _ m_204) (fun _ h9 => h9) rfl (by decide +kernel) rfl rfl (Nat.le_of_ble_eq_true rfl) d_Md_step_24 (fun H locs hP hD hS => ?_)
    have hP : va_P (dC, dI) classes [(h0, .inr (3, [.int 0, .int (rt + 1), .int (ct + 1), .int pd, .int cg, .int pn, .int mk, .int sr, .int sv, .int tk, .ref h1, .ref h2, .int (nI n), .int (nI c)])), (h1, .inl (cC, 32, .inl f)), (h2, .inl (cV, 32, .inl g))] H := hP
    have hD : va_D A [(h0, .inr (3, [.int 0, .int (rt + 1), .int (ct + 1), .int pd, .int cg, .int pn, .int mk, .int sr, .int sv, .int tk, .ref h1, .ref h2, .int (nI n), .int (nI c)])), (h1, .inl (cC, 32, .inl f)), (h2, .inl (cV, 32, .inl g))] := hD
    refine lv_aload_n hx hb d_Md_step_27 rfl (lv_at hl 0 rfl) ?_
    refine va_get (D := (dC, dI)) (ci := 3) (v := .int (ct + 1)) (C := R_Md) (T := F_Md) (N := 14) hx hb hts i_Md hown hK hP 0 rfl rfl 2 (by decide) (hts _ m_204) (fun _ h9 => h9) rfl d_Md_step_28 ?_
    refine lv_aload_n hx hb d_Md_step_31 rfl (lv_at hl 0 rfl) ?_
    refine va_get (D := (dC, dI)) (ci := 3) (v := .int pd) (C := R_Md) (T := F_Md) (N := 14) hx hb hts i_Md hown hK hP 0 rfl rfl 3 (by decide) (hts _ m_205) (fun _ h9 => h9) rfl d_Md_step_32 ?_
    refine lv_icmp_ne (tgt := 48) hx hb d_Md_step_35 (by decide) (fun c_35 => ?_) (fun c_35 => ?_)
    · refine lv_aload_n hx hb d_Md_step_48 rfl (lv_at hl 0 rfl) ?_
      refine rt_gv (wr := []) (rt_runV (rest := []) ⟨hx, hb, hml, hown, hts⟩ (c_Md_goOn l dC dI h0 h1 h2 cC cV H.size (rt + 1) (ct + 1) pd cg pn mk sr sv tk n c f g c1 hn hcc hc) (rt_gV m_249 m_251 m_5 m_13 m_252) hd_Md_goOn ⟨Nat.le_of_ble_eq_true rfl, Nat.le_of_ble_eq_true rfl, rfl, rfl⟩ hP hK hD hN [0, 1, 2] [0, 1] (by decide) rfl rfl rfl rfl rfl hl.1 rfl (Nat.le_of_ble_eq_true rfl) d_Md_step_49 ⟨Nat.le_of_ble_eq_true rfl, Nat.le_of_ble_eq_true rfl⟩) hP hD hS hA [0, 1, 2] [] rfl rfl (by decide) (by decide) (fun c_49 H locs hw_49 hP hD hS _ => ?_)
      try dsimp only at hw_49
      have w0_49 := hw_49
      obtain rfl := w0_49.symm
      have hP : va_P (dC, dI) classes [(h0, .inr (3, [.int 0, .int (rt + 1), .int (ct + 1), .int pd, .int cg, .int pn, .int mk, .int sr, .int sv, .int tk, .ref h1, .ref h2, .int (nI n), .int (nI c1)])), (h1, .inl (cC, 32, .inl f)), (h2, .inl (cV, 32, .inl g))] H := hP
      have hD : va_D A [(h0, .inr (3, [.int 0, .int (rt + 1), .int (ct + 1), .int pd, .int cg, .int pn, .int mk, .int sr, .int sv, .int tk, .ref h1, .ref h2, .int (nI n), .int (nI c1)])), (h1, .inl (cC, 32, .inl f)), (h2, .inl (cV, 32, .inl g))] := hD
      refine rt_vret hx hb hr hlocks ((rt + 1), (ct + 1), pn, c1) ?_ hP hK hD hS d_Md_step_52
      try dsimp only
      exact by simp only [rt_1c, rt_1p, if_neg c_14, if_neg c_35, eq_self, and_self]
    · refine lv_aload_n hx hb d_Md_step_38 rfl (lv_at hl 0 rfl) ?_
      refine lv_iconst (v := 1) hx hb d_Md_step_39 (by decide) ?_
      refine va_put (D := (dC, dI)) (ci := 3) (v := .int 1) (ty := .boolean) (C := R_Md) (T := F_Md) (N := 14) hx hb hts i_Md t_Md t_Md_ok n_Md hown hK hP hD hS 0 rfl rfl 5 (by decide) (hts _ m_207) (fun _ h9 => h9) rfl (by decide +kernel) rfl rfl (Nat.le_of_ble_eq_true rfl) d_Md_step_40 (fun H locs hP hD hS => ?_)
      have hP : va_P (dC, dI) classes [(h0, .inr (3, [.int 0, .int (rt + 1), .int (ct + 1), .int pd, .int cg, .int 1, .int mk, .int sr, .int sv, .int tk, .ref h1, .ref h2, .int (nI n), .int (nI c)])), (h1, .inl (cC, 32, .inl f)), (h2, .inl (cV, 32, .inl g))] H := hP
      have hD : va_D A [(h0, .inr (3, [.int 0, .int (rt + 1), .int (ct + 1), .int pd, .int cg, .int 1, .int mk, .int sr, .int sv, .int tk, .ref h1, .ref h2, .int (nI n), .int (nI c)])), (h1, .inl (cC, 32, .inl f)), (h2, .inl (cV, 32, .inl g))] := hD
      refine lv_aload_n hx hb d_Md_step_43 rfl (lv_at hl 0 rfl) ?_
      refine lv_iconst (v := 0) hx hb d_Md_step_44 (by decide) ?_
      refine va_put (D := (dC, dI)) (ci := 3) (v := .int 0) (ty := .int) (C := R_Md) (T := F_Md) (N := 14) hx hb hts i_Md t_Md t_Md_ok n_Md hown hK hP hD hS 0 rfl rfl 2 (by decide) (hts _ m_204) (fun _ h9 => h9) rfl (by decide +kernel) rfl rfl (Nat.le_of_ble_eq_true rfl) d_Md_step_45 (fun H locs hP hD hS => ?_)
      have hP : va_P (dC, dI) classes [(h0, .inr (3, [.int 0, .int (rt + 1), .int 0, .int pd, .int cg, .int 1, .int mk, .int sr, .int sv, .int tk, .ref h1, .ref h2, .int (nI n), .int (nI c)])), (h1, .inl (cC, 32, .inl f)), (h2, .inl (cV, 32, .inl g))] H := hP
      have hD : va_D A [(h0, .inr (3, [.int 0, .int (rt + 1), .int 0, .int pd, .int cg, .int 1, .int mk, .int sr, .int sv, .int tk, .ref h1, .ref h2, .int (nI n), .int (nI c)])), (h1, .inl (cC, 32, .inl f)), (h2, .inl (cV, 32, .inl g))] := hD
      refine lv_aload_n hx hb d_Md_step_48 rfl (lv_at hl 0 rfl) ?_
      refine rt_gv (wr := []) (rt_runV (rest := []) ⟨hx, hb, hml, hown, hts⟩ (c_Md_goOn l dC dI h0 h1 h2 cC cV H.size (rt + 1) 0 pd cg 1 mk sr sv tk n c f g c1 hn hcc hc) (rt_gV m_249 m_251 m_5 m_13 m_252) hd_Md_goOn ⟨Nat.le_of_ble_eq_true rfl, Nat.le_of_ble_eq_true rfl, rfl, rfl⟩ hP hK hD hN [0, 1, 2] [0, 1] (by decide) rfl rfl rfl rfl rfl hl.1 rfl (Nat.le_of_ble_eq_true rfl) d_Md_step_49 ⟨Nat.le_of_ble_eq_true rfl, Nat.le_of_ble_eq_true rfl⟩) hP hD hS hA [0, 1, 2] [] rfl rfl (by decide) (by decide) (fun c_49 H locs hw_49 hP hD hS _ => ?_)
      try dsimp only at hw_49
      have w0_49 := hw_49
      obtain rfl := w0_49.symm
      have hP : va_P (dC, dI) classes [(h0, .inr (3, [.int 0, .int (rt + 1), .int 0, .int pd, .int cg, .int 1, .int mk, .int sr, .int sv, .int tk, .ref h1, .ref h2, .int (nI n), .int (nI c1)])), (h1, .inl (cC, 32, .inl f)), (h2, .inl (cV, 32, .inl g))] H := hP
      have hD : va_D A [(h0, .inr (3, [.int 0, .int (rt + 1), .int 0, .int pd, .int cg, .int 1, .int mk, .int sr, .int sv, .int tk, .ref h1, .ref h2, .int (nI n), .int (nI c1)])), (h1, .inl (cC, 32, .inl f)), (h2, .inl (cV, 32, .inl g))] := hD
      refine rt_vret hx hb hr hlocks ((rt + 1), 0, 1, c1) ?_ hP hK hD hS d_Md_step_52
      try dsimp only
      exact by simp only [rt_1c, rt_1p, if_neg c_14, if_pos c_35, eq_self, and_self]
set_option maxHeartbeats 4000000 in
set_option maxRecDepth 100000 in
theorem c_Md_take (l : Launch) (dC : Nat → ClassId) (dI : Nat → Nat → Nat) (h0 h1 h2 : Nat) (cC cV : ClassId) (sz : Nat) (rt ct pd cg pn mk sr sv tk : Int32) (n c : Nat) (f g : Nat → Int32) (hn : n ≤ 32) (hcn : c ≤ n) :
    rt_Ci l y_Md_take b_Md_take 2 (some .int) ({ frames := 2, cells := 0, slots := 0, locals := 40 } : Room) dC dI [(cC, .int), (cV, .int)] [(h0, .inr (3, [.int 0, .int rt, .int ct, .int pd, .int cg, .int pn, .int mk, .int sr, .int sv, .int tk, .ref h1, .ref h2, .int (nI n), .int (nI c)])), (h1, .inl (cC, 32, .inl f)), (h2, .inl (cV, 32, .inl g))] sz [.ref h0] (fun (r : Int32) (u : Int32 × Int32 × Int32) => r = rt_dm sr pn mk (rt_lv g c) ∧ u.1 = rt_ts (rt_dm sr pn mk (rt_lv g c)) sr ∧ u.2.1 = rt_tv (rt_dm sr pn mk (rt_lv g c)) sr sv ∧ u.2.2 = rt_tt (rt_dm sr pn mk (rt_lv g c)) tk) (fun _ => [(cC, .int), (cV, .int)]) (fun u => [(h0, .inr (3, [.int 0, .int rt, .int ct, .int pd, .int cg, .int pn, .int mk, .int u.1, .int u.2.1, .int u.2.2, .ref h1, .ref h2, .int (nI n), .int (nI c)])), (h1, .inl (cC, 32, .inl f)), (h2, .inl (cV, 32, .inl g))]) 0 0 := by
  refine rt_meti (by decide) (Nat.le_of_ble_eq_true rfl) ?_
  intro p e s m below meth c_ A ls hx hb hr hml hown hts hlocks hin hP hK hD hN hA hS hl
  have hown : s.vm.findClass R_Md = some m.cls := hown
  have hl : lv_has ls 2 [(0, .ref h0)] := hl
  refine lv_aload_n hx hb d_Md_take_0 rfl (lv_at hl 0 rfl) ?_
  refine lv_iconst (v := 0) hx hb d_Md_take_1 (by decide) ?_
  refine va_put (D := (dC, dI)) (ci := 3) (v := .int 0) (ty := .int) (C := R_Md) (T := F_Md) (N := 14) hx hb hts i_Md t_Md t_Md_ok n_Md hown hK hP hD hS 0 rfl rfl 0 (by decide) (hts _ m_202) (fun _ h9 => h9) rfl (by decide +kernel) rfl rfl (Nat.le_of_ble_eq_true rfl) d_Md_take_2 (fun H locs hP hD hS => ?_)
  have hP : va_P (dC, dI) classes [(h0, .inr (3, [.int 0, .int rt, .int ct, .int pd, .int cg, .int pn, .int mk, .int sr, .int sv, .int tk, .ref h1, .ref h2, .int (nI n), .int (nI c)])), (h1, .inl (cC, 32, .inl f)), (h2, .inl (cV, 32, .inl g))] H := hP
  have hD : va_D A [(h0, .inr (3, [.int 0, .int rt, .int ct, .int pd, .int cg, .int pn, .int mk, .int sr, .int sv, .int tk, .ref h1, .ref h2, .int (nI n), .int (nI c)])), (h1, .inl (cC, 32, .inl f)), (h2, .inl (cV, 32, .inl g))] := hD
  refine lv_aload_n hx hb d_Md_take_5 rfl (lv_at hl 0 rfl) ?_
  refine rt_gi (wr := []) (rt_runV (rest := []) ⟨hx, hb, hml, hown, hts⟩ (c_Md_due l dC dI h0 h1 h2 cC cV H.size rt ct pd cg pn mk sr sv tk n c f g hn hcn) (rt_gV m_258 m_260 m_6 m_13 m_261) hd_Md_due ⟨Nat.le_of_ble_eq_true rfl, Nat.le_of_ble_eq_true rfl, rfl, rfl⟩ hP hK hD hN [0, 1, 2] [0, 1] (by decide) rfl rfl rfl rfl rfl hl.1 rfl (Nat.le_of_ble_eq_true rfl) d_Md_take_6 ⟨Nat.le_of_ble_eq_true rfl, Nat.le_of_ble_eq_true rfl⟩) hP hD hS hA [0, 1, 2] [] rfl rfl (by decide) (by decide) (fun r_6 u_6 H locs hw_6 hP hD hS _ => ?_)
  try dsimp only at hw_6
  have w0_6 := hw_6
  obtain rfl := w0_6.symm
  have hP : va_P (dC, dI) classes [(h0, .inr (3, [.int 0, .int rt, .int ct, .int pd, .int cg, .int pn, .int mk, .int sr, .int sv, .int tk, .ref h1, .ref h2, .int (nI n), .int (nI c)])), (h1, .inl (cC, 32, .inl f)), (h2, .inl (cV, 32, .inl g))] H := hP
  have hD : va_D A [(h0, .inr (3, [.int 0, .int rt, .int ct, .int pd, .int cg, .int pn, .int mk, .int sr, .int sv, .int tk, .ref h1, .ref h2, .int (nI n), .int (nI c)])), (h1, .inl (cC, 32, .inl f)), (h2, .inl (cV, 32, .inl g))] := hD
  refine lv_istore_n (lv' := [(1, .int (rt_dm sr pn mk (rt_lv g c))), (0, .ref h0)]) hx hb d_Md_take_9 rfl hl (by decide) rfl (fun ls hl => ?_)
  refine lv_iload_n hx hb d_Md_take_10 rfl (lv_at hl 0 rfl) ?_
  refine lv_if_le (tgt := 45) hx hb d_Md_take_11 (by decide) (fun c_11 => ?_) (fun c_11 => ?_)
  · refine lv_iload_n hx hb d_Md_take_45 rfl (lv_at hl 0 rfl) ?_
    refine rt_iret hx hb hr hlocks (sr, sv, tk) ?_ hP hK hD hS d_Md_take_46
    try dsimp only
    exact by simp only [rt_ts, rt_tv, rt_tt, if_pos c_11, eq_self, and_self]
  · refine lv_aload_n hx hb d_Md_take_14 rfl (lv_at hl 1 rfl) ?_
    refine lv_aload_n hx hb d_Md_take_15 rfl (lv_at hl 1 rfl) ?_
    refine va_get (D := (dC, dI)) (ci := 3) (v := .int sr) (C := R_Md) (T := F_Md) (N := 14) hx hb hts i_Md hown hK hP 0 rfl rfl 7 (by decide) (hts _ m_209) (fun _ h9 => h9) rfl d_Md_take_16 ?_
    refine va_put (D := (dC, dI)) (ci := 3) (v := .int sr) (ty := .int) (C := R_Md) (T := F_Md) (N := 14) hx hb hts i_Md t_Md t_Md_ok n_Md hown hK hP hD hS 0 rfl rfl 8 (by decide) (hts _ m_210) (fun _ h9 => h9) rfl (by decide +kernel) rfl rfl (Nat.le_of_ble_eq_true rfl) d_Md_take_19 (fun H locs hP hD hS => ?_)
    have hP : va_P (dC, dI) classes [(h0, .inr (3, [.int 0, .int rt, .int ct, .int pd, .int cg, .int pn, .int mk, .int sr, .int sr, .int tk, .ref h1, .ref h2, .int (nI n), .int (nI c)])), (h1, .inl (cC, 32, .inl f)), (h2, .inl (cV, 32, .inl g))] H := hP
    have hD : va_D A [(h0, .inr (3, [.int 0, .int rt, .int ct, .int pd, .int cg, .int pn, .int mk, .int sr, .int sr, .int tk, .ref h1, .ref h2, .int (nI n), .int (nI c)])), (h1, .inl (cC, 32, .inl f)), (h2, .inl (cV, 32, .inl g))] := hD
    refine lv_aload_n hx hb d_Md_take_22 rfl (lv_at hl 1 rfl) ?_
    refine lv_aload_n hx hb d_Md_take_23 rfl (lv_at hl 1 rfl) ?_
    refine va_get (D := (dC, dI)) (ci := 3) (v := .int sr) (C := R_Md) (T := F_Md) (N := 14) hx hb hts i_Md hown hK hP 0 rfl rfl 7 (by decide) (hts _ m_209) (fun _ h9 => h9) rfl d_Md_take_24 ?_
    refine lv_bipush (v := 32) hx hb d_Md_take_27 (by decide) ?_
    refine lv_iand hx hb d_Md_take_29 ?_
    refine lv_iconst (v := 1) hx hb d_Md_take_30 (by decide) ?_
    refine lv_ior hx hb d_Md_take_31 ?_
    refine va_put (D := (dC, dI)) (ci := 3) (v := .int ((sr &&& 32) ||| 1)) (ty := .int) (C := R_Md) (T := F_Md) (N := 14) hx hb hts i_Md t_Md t_Md_ok n_Md hown hK hP hD hS 0 rfl rfl 7 (by decide) (hts _ m_209) (fun _ h9 => h9) rfl (by decide +kernel) rfl rfl (Nat.le_of_ble_eq_true rfl) d_Md_take_32 (fun H locs hP hD hS => ?_)
    have hP : va_P (dC, dI) classes [(h0, .inr (3, [.int 0, .int rt, .int ct, .int pd, .int cg, .int pn, .int mk, .int ((sr &&& 32) ||| 1), .int sr, .int tk, .ref h1, .ref h2, .int (nI n), .int (nI c)])), (h1, .inl (cC, 32, .inl f)), (h2, .inl (cV, 32, .inl g))] H := hP
    have hD : va_D A [(h0, .inr (3, [.int 0, .int rt, .int ct, .int pd, .int cg, .int pn, .int mk, .int ((sr &&& 32) ||| 1), .int sr, .int tk, .ref h1, .ref h2, .int (nI n), .int (nI c)])), (h1, .inl (cC, 32, .inl f)), (h2, .inl (cV, 32, .inl g))] := hD
    refine lv_aload_n hx hb d_Md_take_35 rfl (lv_at hl 1 rfl) ?_
    refine lv_dup hx hb d_Md_take_36 rfl ?_
    refine va_get (D := (dC, dI)) (ci := 3) (v := .int tk) (C := R_Md) (T := F_Md) (N := 14) hx hb hts i_Md hown hK hP 0 rfl rfl 9 (by decide) (hts _ m_211) (fun _ h9 => h9) rfl d_Md_take_37 ?_
    refine lv_iconst (v := 1) hx hb d_Md_take_40 (by decide) ?_
    refine lv_iadd hx hb d_Md_take_41 ?_
    refine va_put (D := (dC, dI)) (ci := 3) (v := .int (tk + 1)) (ty := .int) (C := R_Md) (T := F_Md) (N := 14) hx hb hts i_Md t_Md t_Md_ok n_Md hown hK hP hD hS 0 rfl rfl 9 (by decide) (hts _ m_211) (fun _ h9 => h9) rfl (by decide +kernel) rfl rfl (Nat.le_of_ble_eq_true rfl) d_Md_take_42 (fun H locs hP hD hS => ?_)
    have hP : va_P (dC, dI) classes [(h0, .inr (3, [.int 0, .int rt, .int ct, .int pd, .int cg, .int pn, .int mk, .int ((sr &&& 32) ||| 1), .int sr, .int (tk + 1), .ref h1, .ref h2, .int (nI n), .int (nI c)])), (h1, .inl (cC, 32, .inl f)), (h2, .inl (cV, 32, .inl g))] H := hP
    have hD : va_D A [(h0, .inr (3, [.int 0, .int rt, .int ct, .int pd, .int cg, .int pn, .int mk, .int ((sr &&& 32) ||| 1), .int sr, .int (tk + 1), .ref h1, .ref h2, .int (nI n), .int (nI c)])), (h1, .inl (cC, 32, .inl f)), (h2, .inl (cV, 32, .inl g))] := hD
    refine lv_iload_n hx hb d_Md_take_45 rfl (lv_at hl 0 rfl) ?_
    refine rt_iret hx hb hr hlocks (((sr &&& 32) ||| 1), sr, (tk + 1)) ?_ hP hK hD hS d_Md_take_46
    try dsimp only
    exact by simp only [rt_ts, rt_tv, rt_tt, if_neg c_11, eq_self, and_self]
set_option maxHeartbeats 4000000 in
set_option maxRecDepth 100000 in
theorem c_Md_back (l : Launch) (dC : Nat → ClassId) (dI : Nat → Nat → Nat) (h0 h1 h2 : Nat) (cC cV : ClassId) (sz : Nat) (rt ct pd cg pn mk sr sv tk : Int32) (n c : Nat) (f g : Nat → Int32) :
    rt_Cv l y_Md_back b_Md_back 1 none ({ frames := 0, cells := 0, slots := 0, locals := 0 } : Room) dC dI [(cC, .int), (cV, .int)] [(h0, .inr (3, [.int 0, .int rt, .int ct, .int pd, .int cg, .int pn, .int mk, .int sr, .int sv, .int tk, .ref h1, .ref h2, .int (nI n), .int (nI c)])), (h1, .inl (cC, 32, .inl f)), (h2, .inl (cV, 32, .inl g))] sz [.ref h0] (fun (u : Int32) => u = sv) (fun _ => [(cC, .int), (cV, .int)]) (fun u => [(h0, .inr (3, [.int 0, .int rt, .int ct, .int pd, .int cg, .int pn, .int mk, .int u, .int sv, .int tk, .ref h1, .ref h2, .int (nI n), .int (nI c)])), (h1, .inl (cC, 32, .inl f)), (h2, .inl (cV, 32, .inl g))]) 0 0 := by
  refine rt_metv (by decide) (Nat.le_of_ble_eq_true rfl) ?_
  intro p e s m below meth c_ A ls hx hb hr hml hown hts hlocks hin hP hK hD hN hA hS hl
  have hown : s.vm.findClass R_Md = some m.cls := hown
  have hl : lv_has ls 1 [(0, .ref h0)] := hl
  refine lv_aload_n hx hb d_Md_back_0 rfl (lv_at hl 0 rfl) ?_
  refine lv_iconst (v := 0) hx hb d_Md_back_1 (by decide) ?_
  refine va_put (D := (dC, dI)) (ci := 3) (v := .int 0) (ty := .int) (C := R_Md) (T := F_Md) (N := 14) hx hb hts i_Md t_Md t_Md_ok n_Md hown hK hP hD hS 0 rfl rfl 0 (by decide) (hts _ m_202) (fun _ h9 => h9) rfl (by decide +kernel) rfl rfl (Nat.le_of_ble_eq_true rfl) d_Md_back_2 (fun H locs hP hD hS => ?_)
  have hP : va_P (dC, dI) classes [(h0, .inr (3, [.int 0, .int rt, .int ct, .int pd, .int cg, .int pn, .int mk, .int sr, .int sv, .int tk, .ref h1, .ref h2, .int (nI n), .int (nI c)])), (h1, .inl (cC, 32, .inl f)), (h2, .inl (cV, 32, .inl g))] H := hP
  have hD : va_D A [(h0, .inr (3, [.int 0, .int rt, .int ct, .int pd, .int cg, .int pn, .int mk, .int sr, .int sv, .int tk, .ref h1, .ref h2, .int (nI n), .int (nI c)])), (h1, .inl (cC, 32, .inl f)), (h2, .inl (cV, 32, .inl g))] := hD
  refine lv_aload_n hx hb d_Md_back_5 rfl (lv_at hl 0 rfl) ?_
  refine lv_aload_n hx hb d_Md_back_6 rfl (lv_at hl 0 rfl) ?_
  refine va_get (D := (dC, dI)) (ci := 3) (v := .int sv) (C := R_Md) (T := F_Md) (N := 14) hx hb hts i_Md hown hK hP 0 rfl rfl 8 (by decide) (hts _ m_210) (fun _ h9 => h9) rfl d_Md_back_7 ?_
  refine va_put (D := (dC, dI)) (ci := 3) (v := .int sv) (ty := .int) (C := R_Md) (T := F_Md) (N := 14) hx hb hts i_Md t_Md t_Md_ok n_Md hown hK hP hD hS 0 rfl rfl 7 (by decide) (hts _ m_209) (fun _ h9 => h9) rfl (by decide +kernel) rfl rfl (Nat.le_of_ble_eq_true rfl) d_Md_back_10 (fun H locs hP hD hS => ?_)
  have hP : va_P (dC, dI) classes [(h0, .inr (3, [.int 0, .int rt, .int ct, .int pd, .int cg, .int pn, .int mk, .int sv, .int sv, .int tk, .ref h1, .ref h2, .int (nI n), .int (nI c)])), (h1, .inl (cC, 32, .inl f)), (h2, .inl (cV, 32, .inl g))] H := hP
  have hD : va_D A [(h0, .inr (3, [.int 0, .int rt, .int ct, .int pd, .int cg, .int pn, .int mk, .int sv, .int sv, .int tk, .ref h1, .ref h2, .int (nI n), .int (nI c)])), (h1, .inl (cC, 32, .inl f)), (h2, .inl (cV, 32, .inl g))] := hD
  refine rt_vret hx hb hr hlocks sv ?_ hP hK hD hS d_Md_back_13
  exact rfl
set_option maxHeartbeats 4000000 in
set_option maxRecDepth 100000 in
theorem c_Md_mode (l : Launch) (dC : Nat → ClassId) (dI : Nat → Nat → Nat) (h0 h1 h2 : Nat) (cC cV : ClassId) (sz : Nat) (rt ct pd cg pn mk sr sv tk : Int32) (n c : Nat) (f g : Nat → Int32) (a : Int32) :
    rt_Cv l y_Md_mode b_Md_mode 2 none ({ frames := 0, cells := 0, slots := 0, locals := 0 } : Room) dC dI [(cC, .int), (cV, .int)] [(h0, .inr (3, [.int 0, .int rt, .int ct, .int pd, .int cg, .int pn, .int mk, .int sr, .int sv, .int tk, .ref h1, .ref h2, .int (nI n), .int (nI c)])), (h1, .inl (cC, 32, .inl f)), (h2, .inl (cV, 32, .inl g))] sz [.ref h0, .int a] (fun (u : Int32) => u = a &&& 39) (fun _ => [(cC, .int), (cV, .int)]) (fun u => [(h0, .inr (3, [.int 0, .int rt, .int ct, .int pd, .int cg, .int pn, .int mk, .int u, .int sv, .int tk, .ref h1, .ref h2, .int (nI n), .int (nI c)])), (h1, .inl (cC, 32, .inl f)), (h2, .inl (cV, 32, .inl g))]) 0 0 := by
  refine rt_metv (by decide) (Nat.le_of_ble_eq_true rfl) ?_
  intro p e s m below meth c_ A ls hx hb hr hml hown hts hlocks hin hP hK hD hN hA hS hl
  have hown : s.vm.findClass R_Md = some m.cls := hown
  have hl : lv_has ls 2 [(0, .ref h0), (1, .int a)] := hl
  refine lv_aload_n hx hb d_Md_mode_0 rfl (lv_at hl 0 rfl) ?_
  refine lv_iconst (v := 0) hx hb d_Md_mode_1 (by decide) ?_
  refine va_put (D := (dC, dI)) (ci := 3) (v := .int 0) (ty := .int) (C := R_Md) (T := F_Md) (N := 14) hx hb hts i_Md t_Md t_Md_ok n_Md hown hK hP hD hS 0 rfl rfl 0 (by decide) (hts _ m_202) (fun _ h9 => h9) rfl (by decide +kernel) rfl rfl (Nat.le_of_ble_eq_true rfl) d_Md_mode_2 (fun H locs hP hD hS => ?_)
  have hP : va_P (dC, dI) classes [(h0, .inr (3, [.int 0, .int rt, .int ct, .int pd, .int cg, .int pn, .int mk, .int sr, .int sv, .int tk, .ref h1, .ref h2, .int (nI n), .int (nI c)])), (h1, .inl (cC, 32, .inl f)), (h2, .inl (cV, 32, .inl g))] H := hP
  have hD : va_D A [(h0, .inr (3, [.int 0, .int rt, .int ct, .int pd, .int cg, .int pn, .int mk, .int sr, .int sv, .int tk, .ref h1, .ref h2, .int (nI n), .int (nI c)])), (h1, .inl (cC, 32, .inl f)), (h2, .inl (cV, 32, .inl g))] := hD
  refine lv_aload_n hx hb d_Md_mode_5 rfl (lv_at hl 0 rfl) ?_
  refine lv_iload_n hx hb d_Md_mode_6 rfl (lv_at hl 1 rfl) ?_
  refine lv_bipush (v := 39) hx hb d_Md_mode_7 (by decide) ?_
  refine lv_iand hx hb d_Md_mode_9 ?_
  refine va_put (D := (dC, dI)) (ci := 3) (v := .int (a &&& 39)) (ty := .int) (C := R_Md) (T := F_Md) (N := 14) hx hb hts i_Md t_Md t_Md_ok n_Md hown hK hP hD hS 0 rfl rfl 7 (by decide) (hts _ m_209) (fun _ h9 => h9) rfl (by decide +kernel) rfl rfl (Nat.le_of_ble_eq_true rfl) d_Md_mode_10 (fun H locs hP hD hS => ?_)
  have hP : va_P (dC, dI) classes [(h0, .inr (3, [.int 0, .int rt, .int ct, .int pd, .int cg, .int pn, .int mk, .int (a &&& 39), .int sv, .int tk, .ref h1, .ref h2, .int (nI n), .int (nI c)])), (h1, .inl (cC, 32, .inl f)), (h2, .inl (cV, 32, .inl g))] H := hP
  have hD : va_D A [(h0, .inr (3, [.int 0, .int rt, .int ct, .int pd, .int cg, .int pn, .int mk, .int (a &&& 39), .int sv, .int tk, .ref h1, .ref h2, .int (nI n), .int (nI c)])), (h1, .inl (cC, 32, .inl f)), (h2, .inl (cV, 32, .inl g))] := hD
  refine rt_vret hx hb hr hlocks (a &&& 39) ?_ hP hK hD hS d_Md_mode_13
  exact rfl
set_option maxHeartbeats 4000000 in
set_option maxRecDepth 100000 in
theorem c_Md_mask (l : Launch) (dC : Nat → ClassId) (dI : Nat → Nat → Nat) (h0 h1 h2 : Nat) (cC cV : ClassId) (sz : Nat) (rt ct pd cg pn mk sr sv tk : Int32) (n c : Nat) (f g : Nat → Int32) (a : Int32) :
    rt_Cv l y_Md_mask b_Md_mask 2 none ({ frames := 0, cells := 0, slots := 0, locals := 0 } : Room) dC dI [(cC, .int), (cV, .int)] [(h0, .inr (3, [.int 0, .int rt, .int ct, .int pd, .int cg, .int pn, .int mk, .int sr, .int sv, .int tk, .ref h1, .ref h2, .int (nI n), .int (nI c)])), (h1, .inl (cC, 32, .inl f)), (h2, .inl (cV, 32, .inl g))] sz [.ref h0, .int a] (fun (u : Int32) => u = a) (fun _ => [(cC, .int), (cV, .int)]) (fun u => [(h0, .inr (3, [.int 0, .int rt, .int ct, .int pd, .int cg, .int pn, .int u, .int sr, .int sv, .int tk, .ref h1, .ref h2, .int (nI n), .int (nI c)])), (h1, .inl (cC, 32, .inl f)), (h2, .inl (cV, 32, .inl g))]) 0 0 := by
  refine rt_metv (by decide) (Nat.le_of_ble_eq_true rfl) ?_
  intro p e s m below meth c_ A ls hx hb hr hml hown hts hlocks hin hP hK hD hN hA hS hl
  have hown : s.vm.findClass R_Md = some m.cls := hown
  have hl : lv_has ls 2 [(0, .ref h0), (1, .int a)] := hl
  refine lv_aload_n hx hb d_Md_mask_0 rfl (lv_at hl 0 rfl) ?_
  refine lv_iconst (v := 0) hx hb d_Md_mask_1 (by decide) ?_
  refine va_put (D := (dC, dI)) (ci := 3) (v := .int 0) (ty := .int) (C := R_Md) (T := F_Md) (N := 14) hx hb hts i_Md t_Md t_Md_ok n_Md hown hK hP hD hS 0 rfl rfl 0 (by decide) (hts _ m_202) (fun _ h9 => h9) rfl (by decide +kernel) rfl rfl (Nat.le_of_ble_eq_true rfl) d_Md_mask_2 (fun H locs hP hD hS => ?_)
  have hP : va_P (dC, dI) classes [(h0, .inr (3, [.int 0, .int rt, .int ct, .int pd, .int cg, .int pn, .int mk, .int sr, .int sv, .int tk, .ref h1, .ref h2, .int (nI n), .int (nI c)])), (h1, .inl (cC, 32, .inl f)), (h2, .inl (cV, 32, .inl g))] H := hP
  have hD : va_D A [(h0, .inr (3, [.int 0, .int rt, .int ct, .int pd, .int cg, .int pn, .int mk, .int sr, .int sv, .int tk, .ref h1, .ref h2, .int (nI n), .int (nI c)])), (h1, .inl (cC, 32, .inl f)), (h2, .inl (cV, 32, .inl g))] := hD
  refine lv_aload_n hx hb d_Md_mask_5 rfl (lv_at hl 0 rfl) ?_
  refine lv_iload_n hx hb d_Md_mask_6 rfl (lv_at hl 1 rfl) ?_
  refine va_put (D := (dC, dI)) (ci := 3) (v := .int a) (ty := .int) (C := R_Md) (T := F_Md) (N := 14) hx hb hts i_Md t_Md t_Md_ok n_Md hown hK hP hD hS 0 rfl rfl 6 (by decide) (hts _ m_208) (fun _ h9 => h9) rfl (by decide +kernel) rfl rfl (Nat.le_of_ble_eq_true rfl) d_Md_mask_7 (fun H locs hP hD hS => ?_)
  have hP : va_P (dC, dI) classes [(h0, .inr (3, [.int 0, .int rt, .int ct, .int pd, .int cg, .int pn, .int a, .int sr, .int sv, .int tk, .ref h1, .ref h2, .int (nI n), .int (nI c)])), (h1, .inl (cC, 32, .inl f)), (h2, .inl (cV, 32, .inl g))] H := hP
  have hD : va_D A [(h0, .inr (3, [.int 0, .int rt, .int ct, .int pd, .int cg, .int pn, .int a, .int sr, .int sv, .int tk, .ref h1, .ref h2, .int (nI n), .int (nI c)])), (h1, .inl (cC, 32, .inl f)), (h2, .inl (cV, 32, .inl g))] := hD
  refine rt_vret hx hb hr hlocks a ?_ hP hK hD hS d_Md_mask_10
  exact rfl
set_option maxHeartbeats 4000000 in
set_option maxRecDepth 100000 in
theorem c_Md_timer (l : Launch) (dC : Nat → ClassId) (dI : Nat → Nat → Nat) (h0 h1 h2 : Nat) (cC cV : ClassId) (sz : Nat) (rt ct pd cg pn mk sr sv tk : Int32) (n c : Nat) (f g : Nat → Int32) (a : Int32) (b1 : Int32) (b2 : Int32) (hb1 : b1 = 0 ∨ b1 = 1) (hb2 : b2 = 0 ∨ b2 = 1) :
    rt_Cv l y_Md_timer b_Md_timer 4 none ({ frames := 0, cells := 0, slots := 0, locals := 0 } : Room) dC dI [(cC, .int), (cV, .int)] [(h0, .inr (3, [.int 0, .int rt, .int ct, .int pd, .int cg, .int pn, .int mk, .int sr, .int sv, .int tk, .ref h1, .ref h2, .int (nI n), .int (nI c)])), (h1, .inl (cC, 32, .inl f)), (h2, .inl (cV, 32, .inl g))] sz [.ref h0, .int a, .int b1, .int b2] (fun (u : Int32 × Int32 × Int32) => u.1 = a &&& 268435455 ∧ u.2.1 = b1 ∧ u.2.2 = b2) (fun _ => [(cC, .int), (cV, .int)]) (fun u => [(h0, .inr (3, [.int 0, .int rt, .int ct, .int u.1, .int u.2.1, .int u.2.2, .int mk, .int sr, .int sv, .int tk, .ref h1, .ref h2, .int (nI n), .int (nI c)])), (h1, .inl (cC, 32, .inl f)), (h2, .inl (cV, 32, .inl g))]) 0 0 := by
  refine rt_metv (by decide) (Nat.le_of_ble_eq_true rfl) ?_
  intro p e s m below meth c_ A ls hx hb hr hml hown hts hlocks hin hP hK hD hN hA hS hl
  have hown : s.vm.findClass R_Md = some m.cls := hown
  have hl : lv_has ls 4 [(0, .ref h0), (1, .int a), (2, .int b1), (3, .int b2)] := hl
  refine lv_aload_n hx hb d_Md_timer_0 rfl (lv_at hl 0 rfl) ?_
  refine lv_iconst (v := 0) hx hb d_Md_timer_1 (by decide) ?_
  refine va_put (D := (dC, dI)) (ci := 3) (v := .int 0) (ty := .int) (C := R_Md) (T := F_Md) (N := 14) hx hb hts i_Md t_Md t_Md_ok n_Md hown hK hP hD hS 0 rfl rfl 0 (by decide) (hts _ m_202) (fun _ h9 => h9) rfl (by decide +kernel) rfl rfl (Nat.le_of_ble_eq_true rfl) d_Md_timer_2 (fun H locs hP hD hS => ?_)
  have hP : va_P (dC, dI) classes [(h0, .inr (3, [.int 0, .int rt, .int ct, .int pd, .int cg, .int pn, .int mk, .int sr, .int sv, .int tk, .ref h1, .ref h2, .int (nI n), .int (nI c)])), (h1, .inl (cC, 32, .inl f)), (h2, .inl (cV, 32, .inl g))] H := hP
  have hD : va_D A [(h0, .inr (3, [.int 0, .int rt, .int ct, .int pd, .int cg, .int pn, .int mk, .int sr, .int sv, .int tk, .ref h1, .ref h2, .int (nI n), .int (nI c)])), (h1, .inl (cC, 32, .inl f)), (h2, .inl (cV, 32, .inl g))] := hD
  refine lv_aload_n hx hb d_Md_timer_5 rfl (lv_at hl 0 rfl) ?_
  refine lv_iload_n hx hb d_Md_timer_6 rfl (lv_at hl 1 rfl) ?_
  refine lv_ldc hx hb hown (hts _ m_290) d_Md_timer_7 ?_
  refine lv_iand hx hb d_Md_timer_9 ?_
  refine va_put (D := (dC, dI)) (ci := 3) (v := .int (a &&& 268435455)) (ty := .int) (C := R_Md) (T := F_Md) (N := 14) hx hb hts i_Md t_Md t_Md_ok n_Md hown hK hP hD hS 0 rfl rfl 3 (by decide) (hts _ m_205) (fun _ h9 => h9) rfl (by decide +kernel) rfl rfl (Nat.le_of_ble_eq_true rfl) d_Md_timer_10 (fun H locs hP hD hS => ?_)
  have hP : va_P (dC, dI) classes [(h0, .inr (3, [.int 0, .int rt, .int ct, .int (a &&& 268435455), .int cg, .int pn, .int mk, .int sr, .int sv, .int tk, .ref h1, .ref h2, .int (nI n), .int (nI c)])), (h1, .inl (cC, 32, .inl f)), (h2, .inl (cV, 32, .inl g))] H := hP
  have hD : va_D A [(h0, .inr (3, [.int 0, .int rt, .int ct, .int (a &&& 268435455), .int cg, .int pn, .int mk, .int sr, .int sv, .int tk, .ref h1, .ref h2, .int (nI n), .int (nI c)])), (h1, .inl (cC, 32, .inl f)), (h2, .inl (cV, 32, .inl g))] := hD
  refine lv_aload_n hx hb d_Md_timer_13 rfl (lv_at hl 0 rfl) ?_
  refine lv_iload_n hx hb d_Md_timer_14 rfl (lv_at hl 2 rfl) ?_
  refine va_put (D := (dC, dI)) (ci := 3) (v := .int b1) (ty := .boolean) (C := R_Md) (T := F_Md) (N := 14) hx hb hts i_Md t_Md t_Md_ok n_Md hown hK hP hD hS 0 rfl rfl 4 (by decide) (hts _ m_206) (fun _ h9 => h9) rfl (by decide +kernel) (rt_bn hb1) (rt_bf hb1) (Nat.le_of_ble_eq_true rfl) d_Md_timer_15 (fun H locs hP hD hS => ?_)
  have hP : va_P (dC, dI) classes [(h0, .inr (3, [.int 0, .int rt, .int ct, .int (a &&& 268435455), .int b1, .int pn, .int mk, .int sr, .int sv, .int tk, .ref h1, .ref h2, .int (nI n), .int (nI c)])), (h1, .inl (cC, 32, .inl f)), (h2, .inl (cV, 32, .inl g))] H := hP
  have hD : va_D A [(h0, .inr (3, [.int 0, .int rt, .int ct, .int (a &&& 268435455), .int b1, .int pn, .int mk, .int sr, .int sv, .int tk, .ref h1, .ref h2, .int (nI n), .int (nI c)])), (h1, .inl (cC, 32, .inl f)), (h2, .inl (cV, 32, .inl g))] := hD
  refine lv_aload_n hx hb d_Md_timer_18 rfl (lv_at hl 0 rfl) ?_
  refine lv_iload_n hx hb d_Md_timer_19 rfl (lv_at hl 3 rfl) ?_
  refine va_put (D := (dC, dI)) (ci := 3) (v := .int b2) (ty := .boolean) (C := R_Md) (T := F_Md) (N := 14) hx hb hts i_Md t_Md t_Md_ok n_Md hown hK hP hD hS 0 rfl rfl 5 (by decide) (hts _ m_207) (fun _ h9 => h9) rfl (by decide +kernel) (rt_bn hb2) (rt_bf hb2) (Nat.le_of_ble_eq_true rfl) d_Md_timer_20 (fun H locs hP hD hS => ?_)
  have hP : va_P (dC, dI) classes [(h0, .inr (3, [.int 0, .int rt, .int ct, .int (a &&& 268435455), .int b1, .int b2, .int mk, .int sr, .int sv, .int tk, .ref h1, .ref h2, .int (nI n), .int (nI c)])), (h1, .inl (cC, 32, .inl f)), (h2, .inl (cV, 32, .inl g))] H := hP
  have hD : va_D A [(h0, .inr (3, [.int 0, .int rt, .int ct, .int (a &&& 268435455), .int b1, .int b2, .int mk, .int sr, .int sv, .int tk, .ref h1, .ref h2, .int (nI n), .int (nI c)])), (h1, .inl (cC, 32, .inl f)), (h2, .inl (cV, 32, .inl g))] := hD
  refine rt_vret hx hb hr hlocks ((a &&& 268435455), b1, b2) ?_ hP hK hD hS d_Md_timer_23
  exact ⟨rfl, rfl, rfl⟩
set_option maxHeartbeats 4000000 in
set_option maxRecDepth 100000 in
theorem c_Md_count (l : Launch) (dC : Nat → ClassId) (dI : Nat → Nat → Nat) (h0 h1 h2 : Nat) (cC cV : ClassId) (sz : Nat) (rt ct pd cg pn mk sr sv tk : Int32) (n c : Nat) (f g : Nat → Int32) (a : Int32) :
    rt_Cv l y_Md_count b_Md_count 2 none ({ frames := 0, cells := 0, slots := 0, locals := 0 } : Room) dC dI [(cC, .int), (cV, .int)] [(h0, .inr (3, [.int 0, .int rt, .int ct, .int pd, .int cg, .int pn, .int mk, .int sr, .int sv, .int tk, .ref h1, .ref h2, .int (nI n), .int (nI c)])), (h1, .inl (cC, 32, .inl f)), (h2, .inl (cV, 32, .inl g))] sz [.ref h0, .int a] (fun (u : Int32) => u = a) (fun _ => [(cC, .int), (cV, .int)]) (fun u => [(h0, .inr (3, [.int 0, .int rt, .int u, .int pd, .int cg, .int pn, .int mk, .int sr, .int sv, .int tk, .ref h1, .ref h2, .int (nI n), .int (nI c)])), (h1, .inl (cC, 32, .inl f)), (h2, .inl (cV, 32, .inl g))]) 0 0 := by
  refine rt_metv (by decide) (Nat.le_of_ble_eq_true rfl) ?_
  intro p e s m below meth c_ A ls hx hb hr hml hown hts hlocks hin hP hK hD hN hA hS hl
  have hown : s.vm.findClass R_Md = some m.cls := hown
  have hl : lv_has ls 2 [(0, .ref h0), (1, .int a)] := hl
  refine lv_aload_n hx hb d_Md_count_0 rfl (lv_at hl 0 rfl) ?_
  refine lv_iconst (v := 0) hx hb d_Md_count_1 (by decide) ?_
  refine va_put (D := (dC, dI)) (ci := 3) (v := .int 0) (ty := .int) (C := R_Md) (T := F_Md) (N := 14) hx hb hts i_Md t_Md t_Md_ok n_Md hown hK hP hD hS 0 rfl rfl 0 (by decide) (hts _ m_202) (fun _ h9 => h9) rfl (by decide +kernel) rfl rfl (Nat.le_of_ble_eq_true rfl) d_Md_count_2 (fun H locs hP hD hS => ?_)
  have hP : va_P (dC, dI) classes [(h0, .inr (3, [.int 0, .int rt, .int ct, .int pd, .int cg, .int pn, .int mk, .int sr, .int sv, .int tk, .ref h1, .ref h2, .int (nI n), .int (nI c)])), (h1, .inl (cC, 32, .inl f)), (h2, .inl (cV, 32, .inl g))] H := hP
  have hD : va_D A [(h0, .inr (3, [.int 0, .int rt, .int ct, .int pd, .int cg, .int pn, .int mk, .int sr, .int sv, .int tk, .ref h1, .ref h2, .int (nI n), .int (nI c)])), (h1, .inl (cC, 32, .inl f)), (h2, .inl (cV, 32, .inl g))] := hD
  refine lv_aload_n hx hb d_Md_count_5 rfl (lv_at hl 0 rfl) ?_
  refine lv_iload_n hx hb d_Md_count_6 rfl (lv_at hl 1 rfl) ?_
  refine va_put (D := (dC, dI)) (ci := 3) (v := .int a) (ty := .int) (C := R_Md) (T := F_Md) (N := 14) hx hb hts i_Md t_Md t_Md_ok n_Md hown hK hP hD hS 0 rfl rfl 2 (by decide) (hts _ m_204) (fun _ h9 => h9) rfl (by decide +kernel) rfl rfl (Nat.le_of_ble_eq_true rfl) d_Md_count_7 (fun H locs hP hD hS => ?_)
  have hP : va_P (dC, dI) classes [(h0, .inr (3, [.int 0, .int rt, .int a, .int pd, .int cg, .int pn, .int mk, .int sr, .int sv, .int tk, .ref h1, .ref h2, .int (nI n), .int (nI c)])), (h1, .inl (cC, 32, .inl f)), (h2, .inl (cV, 32, .inl g))] H := hP
  have hD : va_D A [(h0, .inr (3, [.int 0, .int rt, .int a, .int pd, .int cg, .int pn, .int mk, .int sr, .int sv, .int tk, .ref h1, .ref h2, .int (nI n), .int (nI c)])), (h1, .inl (cC, 32, .inl f)), (h2, .inl (cV, 32, .inl g))] := hD
  refine rt_vret hx hb hr hlocks a ?_ hP hK hD hS d_Md_count_10
  exact rfl
set_option maxHeartbeats 4000000 in
set_option maxRecDepth 100000 in
theorem c_Md_reset (l : Launch) (dC : Nat → ClassId) (dI : Nat → Nat → Nat) (h0 h1 h2 : Nat) (cC cV : ClassId) (sz : Nat) (rt ct pd cg pn mk sr sv tk : Int32) (n c : Nat) (f g : Nat → Int32) :
    rt_Cv l y_Md_reset b_Md_reset 1 none ({ frames := 0, cells := 0, slots := 0, locals := 0 } : Room) dC dI [(cC, .int), (cV, .int)] [(h0, .inr (3, [.int 0, .int rt, .int ct, .int pd, .int cg, .int pn, .int mk, .int sr, .int sv, .int tk, .ref h1, .ref h2, .int (nI n), .int (nI c)])), (h1, .inl (cC, 32, .inl f)), (h2, .inl (cV, 32, .inl g))] sz [.ref h0] (fun (u : Int32 × Int32 × Int32 × Int32 × Int32 × Int32 × Int32 × Int32 × Int32 × Nat × Nat) => u.1 = 0 ∧ u.2.1 = 0 ∧ u.2.2.1 = 1 ∧ u.2.2.2.1 = 0 ∧ u.2.2.2.2.1 = 0 ∧ u.2.2.2.2.2.1 = 0 ∧ u.2.2.2.2.2.2.1 = 0 ∧ u.2.2.2.2.2.2.2.1 = 0 ∧ u.2.2.2.2.2.2.2.2.1 = 0 ∧ u.2.2.2.2.2.2.2.2.2.1 = 0 ∧ u.2.2.2.2.2.2.2.2.2.2 = 0) (fun _ => [(cC, .int), (cV, .int)]) (fun u => [(h0, .inr (3, [.int 0, .int u.1, .int u.2.2.2.2.2.2.1, .int u.2.2.2.2.2.1, .int u.2.2.2.2.2.2.2.1, .int u.2.2.2.2.2.2.2.2.1, .int u.2.1, .int u.2.2.1, .int u.2.2.2.1, .int u.2.2.2.2.1, .ref h1, .ref h2, .int (nI u.2.2.2.2.2.2.2.2.2.1), .int (nI u.2.2.2.2.2.2.2.2.2.2)])), (h1, .inl (cC, 32, .inl f)), (h2, .inl (cV, 32, .inl g))]) 0 0 := by
  refine rt_metv (by decide) (Nat.le_of_ble_eq_true rfl) ?_
  intro p e s m below meth c_ A ls hx hb hr hml hown hts hlocks hin hP hK hD hN hA hS hl
  have hown : s.vm.findClass R_Md = some m.cls := hown
  have hl : lv_has ls 1 [(0, .ref h0)] := hl
  refine lv_aload_n hx hb d_Md_reset_0 rfl (lv_at hl 0 rfl) ?_
  refine lv_iconst (v := 0) hx hb d_Md_reset_1 (by decide) ?_
  refine va_put (D := (dC, dI)) (ci := 3) (v := .int 0) (ty := .int) (C := R_Md) (T := F_Md) (N := 14) hx hb hts i_Md t_Md t_Md_ok n_Md hown hK hP hD hS 0 rfl rfl 0 (by decide) (hts _ m_202) (fun _ h9 => h9) rfl (by decide +kernel) rfl rfl (Nat.le_of_ble_eq_true rfl) d_Md_reset_2 (fun H locs hP hD hS => ?_)
  have hP : va_P (dC, dI) classes [(h0, .inr (3, [.int 0, .int rt, .int ct, .int pd, .int cg, .int pn, .int mk, .int sr, .int sv, .int tk, .ref h1, .ref h2, .int (nI n), .int (nI c)])), (h1, .inl (cC, 32, .inl f)), (h2, .inl (cV, 32, .inl g))] H := hP
  have hD : va_D A [(h0, .inr (3, [.int 0, .int rt, .int ct, .int pd, .int cg, .int pn, .int mk, .int sr, .int sv, .int tk, .ref h1, .ref h2, .int (nI n), .int (nI c)])), (h1, .inl (cC, 32, .inl f)), (h2, .inl (cV, 32, .inl g))] := hD
  refine lv_aload_n hx hb d_Md_reset_5 rfl (lv_at hl 0 rfl) ?_
  refine lv_iconst (v := 0) hx hb d_Md_reset_6 (by decide) ?_
  refine va_put (D := (dC, dI)) (ci := 3) (v := .int 0) (ty := .int) (C := R_Md) (T := F_Md) (N := 14) hx hb hts i_Md t_Md t_Md_ok n_Md hown hK hP hD hS 0 rfl rfl 1 (by decide) (hts _ m_203) (fun _ h9 => h9) rfl (by decide +kernel) rfl rfl (Nat.le_of_ble_eq_true rfl) d_Md_reset_7 (fun H locs hP hD hS => ?_)
  have hP : va_P (dC, dI) classes [(h0, .inr (3, [.int 0, .int 0, .int ct, .int pd, .int cg, .int pn, .int mk, .int sr, .int sv, .int tk, .ref h1, .ref h2, .int (nI n), .int (nI c)])), (h1, .inl (cC, 32, .inl f)), (h2, .inl (cV, 32, .inl g))] H := hP
  have hD : va_D A [(h0, .inr (3, [.int 0, .int 0, .int ct, .int pd, .int cg, .int pn, .int mk, .int sr, .int sv, .int tk, .ref h1, .ref h2, .int (nI n), .int (nI c)])), (h1, .inl (cC, 32, .inl f)), (h2, .inl (cV, 32, .inl g))] := hD
  refine lv_aload_n hx hb d_Md_reset_10 rfl (lv_at hl 0 rfl) ?_
  refine lv_iconst (v := 0) hx hb d_Md_reset_11 (by decide) ?_
  refine va_put (D := (dC, dI)) (ci := 3) (v := .int 0) (ty := .int) (C := R_Md) (T := F_Md) (N := 14) hx hb hts i_Md t_Md t_Md_ok n_Md hown hK hP hD hS 0 rfl rfl 2 (by decide) (hts _ m_204) (fun _ h9 => h9) rfl (by decide +kernel) rfl rfl (Nat.le_of_ble_eq_true rfl) d_Md_reset_12 (fun H locs hP hD hS => ?_)
  have hP : va_P (dC, dI) classes [(h0, .inr (3, [.int 0, .int 0, .int 0, .int pd, .int cg, .int pn, .int mk, .int sr, .int sv, .int tk, .ref h1, .ref h2, .int (nI n), .int (nI c)])), (h1, .inl (cC, 32, .inl f)), (h2, .inl (cV, 32, .inl g))] H := hP
  have hD : va_D A [(h0, .inr (3, [.int 0, .int 0, .int 0, .int pd, .int cg, .int pn, .int mk, .int sr, .int sv, .int tk, .ref h1, .ref h2, .int (nI n), .int (nI c)])), (h1, .inl (cC, 32, .inl f)), (h2, .inl (cV, 32, .inl g))] := hD
  refine lv_aload_n hx hb d_Md_reset_15 rfl (lv_at hl 0 rfl) ?_
  refine lv_iconst (v := 0) hx hb d_Md_reset_16 (by decide) ?_
  refine va_put (D := (dC, dI)) (ci := 3) (v := .int 0) (ty := .int) (C := R_Md) (T := F_Md) (N := 14) hx hb hts i_Md t_Md t_Md_ok n_Md hown hK hP hD hS 0 rfl rfl 3 (by decide) (hts _ m_205) (fun _ h9 => h9) rfl (by decide +kernel) rfl rfl (Nat.le_of_ble_eq_true rfl) d_Md_reset_17 (fun H locs hP hD hS => ?_)
  have hP : va_P (dC, dI) classes [(h0, .inr (3, [.int 0, .int 0, .int 0, .int 0, .int cg, .int pn, .int mk, .int sr, .int sv, .int tk, .ref h1, .ref h2, .int (nI n), .int (nI c)])), (h1, .inl (cC, 32, .inl f)), (h2, .inl (cV, 32, .inl g))] H := hP
  have hD : va_D A [(h0, .inr (3, [.int 0, .int 0, .int 0, .int 0, .int cg, .int pn, .int mk, .int sr, .int sv, .int tk, .ref h1, .ref h2, .int (nI n), .int (nI c)])), (h1, .inl (cC, 32, .inl f)), (h2, .inl (cV, 32, .inl g))] := hD
  refine lv_aload_n hx hb d_Md_reset_20 rfl (lv_at hl 0 rfl) ?_
  refine lv_iconst (v := 0) hx hb d_Md_reset_21 (by decide) ?_
  refine va_put (D := (dC, dI)) (ci := 3) (v := .int 0) (ty := .boolean) (C := R_Md) (T := F_Md) (N := 14) hx hb hts i_Md t_Md t_Md_ok n_Md hown hK hP hD hS 0 rfl rfl 4 (by decide) (hts _ m_206) (fun _ h9 => h9) rfl (by decide +kernel) rfl rfl (Nat.le_of_ble_eq_true rfl) d_Md_reset_22 (fun H locs hP hD hS => ?_)
  have hP : va_P (dC, dI) classes [(h0, .inr (3, [.int 0, .int 0, .int 0, .int 0, .int 0, .int pn, .int mk, .int sr, .int sv, .int tk, .ref h1, .ref h2, .int (nI n), .int (nI c)])), (h1, .inl (cC, 32, .inl f)), (h2, .inl (cV, 32, .inl g))] H := hP
  have hD : va_D A [(h0, .inr (3, [.int 0, .int 0, .int 0, .int 0, .int 0, .int pn, .int mk, .int sr, .int sv, .int tk, .ref h1, .ref h2, .int (nI n), .int (nI c)])), (h1, .inl (cC, 32, .inl f)), (h2, .inl (cV, 32, .inl g))] := hD
  refine lv_aload_n hx hb d_Md_reset_25 rfl (lv_at hl 0 rfl) ?_
  refine lv_iconst (v := 0) hx hb d_Md_reset_26 (by decide) ?_
  refine va_put (D := (dC, dI)) (ci := 3) (v := .int 0) (ty := .boolean) (C := R_Md) (T := F_Md) (N := 14) hx hb hts i_Md t_Md t_Md_ok n_Md hown hK hP hD hS 0 rfl rfl 5 (by decide) (hts _ m_207) (fun _ h9 => h9) rfl (by decide +kernel) rfl rfl (Nat.le_of_ble_eq_true rfl) d_Md_reset_27 (fun H locs hP hD hS => ?_)
  have hP : va_P (dC, dI) classes [(h0, .inr (3, [.int 0, .int 0, .int 0, .int 0, .int 0, .int 0, .int mk, .int sr, .int sv, .int tk, .ref h1, .ref h2, .int (nI n), .int (nI c)])), (h1, .inl (cC, 32, .inl f)), (h2, .inl (cV, 32, .inl g))] H := hP
  have hD : va_D A [(h0, .inr (3, [.int 0, .int 0, .int 0, .int 0, .int 0, .int 0, .int mk, .int sr, .int sv, .int tk, .ref h1, .ref h2, .int (nI n), .int (nI c)])), (h1, .inl (cC, 32, .inl f)), (h2, .inl (cV, 32, .inl g))] := hD
  refine lv_aload_n hx hb d_Md_reset_30 rfl (lv_at hl 0 rfl) ?_
  refine lv_iconst (v := 0) hx hb d_Md_reset_31 (by decide) ?_
  refine va_put (D := (dC, dI)) (ci := 3) (v := .int 0) (ty := .int) (C := R_Md) (T := F_Md) (N := 14) hx hb hts i_Md t_Md t_Md_ok n_Md hown hK hP hD hS 0 rfl rfl 6 (by decide) (hts _ m_208) (fun _ h9 => h9) rfl (by decide +kernel) rfl rfl (Nat.le_of_ble_eq_true rfl) d_Md_reset_32 (fun H locs hP hD hS => ?_)
  have hP : va_P (dC, dI) classes [(h0, .inr (3, [.int 0, .int 0, .int 0, .int 0, .int 0, .int 0, .int 0, .int sr, .int sv, .int tk, .ref h1, .ref h2, .int (nI n), .int (nI c)])), (h1, .inl (cC, 32, .inl f)), (h2, .inl (cV, 32, .inl g))] H := hP
  have hD : va_D A [(h0, .inr (3, [.int 0, .int 0, .int 0, .int 0, .int 0, .int 0, .int 0, .int sr, .int sv, .int tk, .ref h1, .ref h2, .int (nI n), .int (nI c)])), (h1, .inl (cC, 32, .inl f)), (h2, .inl (cV, 32, .inl g))] := hD
  refine lv_aload_n hx hb d_Md_reset_35 rfl (lv_at hl 0 rfl) ?_
  refine lv_iconst (v := 1) hx hb d_Md_reset_36 (by decide) ?_
  refine va_put (D := (dC, dI)) (ci := 3) (v := .int 1) (ty := .int) (C := R_Md) (T := F_Md) (N := 14) hx hb hts i_Md t_Md t_Md_ok n_Md hown hK hP hD hS 0 rfl rfl 7 (by decide) (hts _ m_209) (fun _ h9 => h9) rfl (by decide +kernel) rfl rfl (Nat.le_of_ble_eq_true rfl) d_Md_reset_37 (fun H locs hP hD hS => ?_)
  have hP : va_P (dC, dI) classes [(h0, .inr (3, [.int 0, .int 0, .int 0, .int 0, .int 0, .int 0, .int 0, .int 1, .int sv, .int tk, .ref h1, .ref h2, .int (nI n), .int (nI c)])), (h1, .inl (cC, 32, .inl f)), (h2, .inl (cV, 32, .inl g))] H := hP
  have hD : va_D A [(h0, .inr (3, [.int 0, .int 0, .int 0, .int 0, .int 0, .int 0, .int 0, .int 1, .int sv, .int tk, .ref h1, .ref h2, .int (nI n), .int (nI c)])), (h1, .inl (cC, 32, .inl f)), (h2, .inl (cV, 32, .inl g))] := hD
  refine lv_aload_n hx hb d_Md_reset_40 rfl (lv_at hl 0 rfl) ?_
  refine lv_iconst (v := 0) hx hb d_Md_reset_41 (by decide) ?_
  refine va_put (D := (dC, dI)) (ci := 3) (v := .int 0) (ty := .int) (C := R_Md) (T := F_Md) (N := 14) hx hb hts i_Md t_Md t_Md_ok n_Md hown hK hP hD hS 0 rfl rfl 8 (by decide) (hts _ m_210) (fun _ h9 => h9) rfl (by decide +kernel) rfl rfl (Nat.le_of_ble_eq_true rfl) d_Md_reset_42 (fun H locs hP hD hS => ?_)
  have hP : va_P (dC, dI) classes [(h0, .inr (3, [.int 0, .int 0, .int 0, .int 0, .int 0, .int 0, .int 0, .int 1, .int 0, .int tk, .ref h1, .ref h2, .int (nI n), .int (nI c)])), (h1, .inl (cC, 32, .inl f)), (h2, .inl (cV, 32, .inl g))] H := hP
  have hD : va_D A [(h0, .inr (3, [.int 0, .int 0, .int 0, .int 0, .int 0, .int 0, .int 0, .int 1, .int 0, .int tk, .ref h1, .ref h2, .int (nI n), .int (nI c)])), (h1, .inl (cC, 32, .inl f)), (h2, .inl (cV, 32, .inl g))] := hD
  refine lv_aload_n hx hb d_Md_reset_45 rfl (lv_at hl 0 rfl) ?_
  refine lv_iconst (v := 0) hx hb d_Md_reset_46 (by decide) ?_
  refine va_put (D := (dC, dI)) (ci := 3) (v := .int 0) (ty := .int) (C := R_Md) (T := F_Md) (N := 14) hx hb hts i_Md t_Md t_Md_ok n_Md hown hK hP hD hS 0 rfl rfl 9 (by decide) (hts _ m_211) (fun _ h9 => h9) rfl (by decide +kernel) rfl rfl (Nat.le_of_ble_eq_true rfl) d_Md_reset_47 (fun H locs hP hD hS => ?_)
  have hP : va_P (dC, dI) classes [(h0, .inr (3, [.int 0, .int 0, .int 0, .int 0, .int 0, .int 0, .int 0, .int 1, .int 0, .int 0, .ref h1, .ref h2, .int (nI n), .int (nI c)])), (h1, .inl (cC, 32, .inl f)), (h2, .inl (cV, 32, .inl g))] H := hP
  have hD : va_D A [(h0, .inr (3, [.int 0, .int 0, .int 0, .int 0, .int 0, .int 0, .int 0, .int 1, .int 0, .int 0, .ref h1, .ref h2, .int (nI n), .int (nI c)])), (h1, .inl (cC, 32, .inl f)), (h2, .inl (cV, 32, .inl g))] := hD
  refine lv_aload_n hx hb d_Md_reset_50 rfl (lv_at hl 0 rfl) ?_
  refine lv_iconst (v := 0) hx hb d_Md_reset_51 (by decide) ?_
  refine rt_topi (nI 0) (nI_0.symm) ?_
  refine va_put (D := (dC, dI)) (ci := 3) (v := .int (nI 0)) (ty := .int) (C := R_Md) (T := F_Md) (N := 14) hx hb hts i_Md t_Md t_Md_ok n_Md hown hK hP hD hS 0 rfl rfl 12 (by decide) (hts _ m_214) (fun _ h9 => h9) rfl (by decide +kernel) rfl rfl (Nat.le_of_ble_eq_true rfl) d_Md_reset_52 (fun H locs hP hD hS => ?_)
  have hP : va_P (dC, dI) classes [(h0, .inr (3, [.int 0, .int 0, .int 0, .int 0, .int 0, .int 0, .int 0, .int 1, .int 0, .int 0, .ref h1, .ref h2, .int (nI 0), .int (nI c)])), (h1, .inl (cC, 32, .inl f)), (h2, .inl (cV, 32, .inl g))] H := hP
  have hD : va_D A [(h0, .inr (3, [.int 0, .int 0, .int 0, .int 0, .int 0, .int 0, .int 0, .int 1, .int 0, .int 0, .ref h1, .ref h2, .int (nI 0), .int (nI c)])), (h1, .inl (cC, 32, .inl f)), (h2, .inl (cV, 32, .inl g))] := hD
  refine lv_aload_n hx hb d_Md_reset_55 rfl (lv_at hl 0 rfl) ?_
  refine lv_iconst (v := 0) hx hb d_Md_reset_56 (by decide) ?_
  refine rt_topi (nI 0) (nI_0.symm) ?_
  refine va_put (D := (dC, dI)) (ci := 3) (v := .int (nI 0)) (ty := .int) (C := R_Md) (T := F_Md) (N := 14) hx hb hts i_Md t_Md t_Md_ok n_Md hown hK hP hD hS 0 rfl rfl 13 (by decide) (hts _ m_215) (fun _ h9 => h9) rfl (by decide +kernel) rfl rfl (Nat.le_of_ble_eq_true rfl) d_Md_reset_57 (fun H locs hP hD hS => ?_)
  have hP : va_P (dC, dI) classes [(h0, .inr (3, [.int 0, .int 0, .int 0, .int 0, .int 0, .int 0, .int 0, .int 1, .int 0, .int 0, .ref h1, .ref h2, .int (nI 0), .int (nI 0)])), (h1, .inl (cC, 32, .inl f)), (h2, .inl (cV, 32, .inl g))] H := hP
  have hD : va_D A [(h0, .inr (3, [.int 0, .int 0, .int 0, .int 0, .int 0, .int 0, .int 0, .int 1, .int 0, .int 0, .ref h1, .ref h2, .int (nI 0), .int (nI 0)])), (h1, .inl (cC, 32, .inl f)), (h2, .inl (cV, 32, .inl g))] := hD
  refine rt_vret hx hb hr hlocks (0, 0, 1, 0, 0, 0, 0, 0, 0, 0, 0) ?_ hP hK hD hS d_Md_reset_60
  exact ⟨rfl, rfl, rfl, rfl, rfl, rfl, rfl, rfl, rfl, rfl, rfl⟩
set_option maxHeartbeats 4000000 in
set_option maxRecDepth 100000 in
theorem c_Md_linesAt (l : Launch) (dC : Nat → ClassId) (dI : Nat → Nat → Nat) (h0 h1 h2 : Nat) (cC cV : ClassId) (sz : Nat) (rt ct pd cg pn mk sr sv tk : Int32) (n c : Nat) (f g : Nat → Int32) (a : Int32) (ca : Nat) (hn : n ≤ 32) (hc : rt_cut f n a ca) :
    rt_Ci l y_Md_linesAt b_Md_linesAt 4 (some .int) ({ frames := 0, cells := 0, slots := 0, locals := 0 } : Room) dC dI [(cC, .int), (cV, .int)] [(h0, .inr (3, [.int 0, .int rt, .int ct, .int pd, .int cg, .int pn, .int mk, .int sr, .int sv, .int tk, .ref h1, .ref h2, .int (nI n), .int (nI c)])), (h1, .inl (cC, 32, .inl f)), (h2, .inl (cV, 32, .inl g))] sz [.ref h0, .int a] (fun (r : Int32) (u : Unit) => r = rt_la a (rt_lv g ca)) (fun _ => [(cC, .int), (cV, .int)]) (fun u => [(h0, .inr (3, [.int 0, .int rt, .int ct, .int pd, .int cg, .int pn, .int mk, .int sr, .int sv, .int tk, .ref h1, .ref h2, .int (nI n), .int (nI c)])), (h1, .inl (cC, 32, .inl f)), (h2, .inl (cV, 32, .inl g))]) 0 0 := by
  refine rt_meti (by decide) (Nat.le_of_ble_eq_true rfl) ?_
  intro p e s m below meth c_ A ls hx hb hr hml hown hts hlocks hin hP hK hD hN hA hS hl
  have hown : s.vm.findClass R_Md = some m.cls := hown
  have hl : lv_has ls 4 [(0, .ref h0), (1, .int a)] := hl
  refine lv_aload_n hx hb d_Md_linesAt_0 rfl (lv_at hl 0 rfl) ?_
  refine lv_iconst (v := 0) hx hb d_Md_linesAt_1 (by decide) ?_
  refine va_put (D := (dC, dI)) (ci := 3) (v := .int 0) (ty := .int) (C := R_Md) (T := F_Md) (N := 14) hx hb hts i_Md t_Md t_Md_ok n_Md hown hK hP hD hS 0 rfl rfl 0 (by decide) (hts _ m_202) (fun _ h9 => h9) rfl (by decide +kernel) rfl rfl (Nat.le_of_ble_eq_true rfl) d_Md_linesAt_2 (fun H locs hP hD hS => ?_)
  have hP : va_P (dC, dI) classes [(h0, .inr (3, [.int 0, .int rt, .int ct, .int pd, .int cg, .int pn, .int mk, .int sr, .int sv, .int tk, .ref h1, .ref h2, .int (nI n), .int (nI c)])), (h1, .inl (cC, 32, .inl f)), (h2, .inl (cV, 32, .inl g))] H := hP
  have hD : va_D A [(h0, .inr (3, [.int 0, .int rt, .int ct, .int pd, .int cg, .int pn, .int mk, .int sr, .int sv, .int tk, .ref h1, .ref h2, .int (nI n), .int (nI c)])), (h1, .inl (cC, 32, .inl f)), (h2, .inl (cV, 32, .inl g))] := hD
  refine lv_iconst (v := 0) hx hb d_Md_linesAt_5 (by decide) ?_
  refine rt_topi (rt_lv g (min 0 ca)) (by simp [rt_lv]) ?_
  refine lv_istore_n (lv' := [(2, .int (rt_lv g (min 0 ca))), (0, .ref h0), (1, .int a)]) hx hb d_Md_linesAt_6 rfl hl (by decide) rfl (fun ls hl => ?_)
  refine lv_iconst (v := 0) hx hb d_Md_linesAt_7 (by decide) ?_
  refine rt_topi (nI 0) (nI_0.symm) ?_
  refine lv_istore_n (lv' := [(3, .int (nI 0)), (2, .int (rt_lv g (min 0 ca))), (0, .ref h0), (1, .int a)]) hx hb d_Md_linesAt_8 rfl hl (by decide) rfl (fun ls hl => ?_)
  refine rt_loop (σ := Nat) (fun j => n - j) (fun j H' locs' ls' => j ≤ n ∧ H = H' ∧ locs = locs' ∧ lv_has ls' 4 [(0, .ref h0), (1, .int a), (2, .int (rt_lv g (min j ca))), (3, .int (nI j))]) ?_ 0 _ _ _ ⟨Nat.zero_le _, rfl, rfl, lv_sub hl [2, 3, 1, 0] rfl⟩
  intro j H' locs' ls hz ih
  obtain ⟨z1, rfl, rfl, hl⟩ := hz
  have hc1 := hc.1
  refine lv_iload_n hx hb d_Md_linesAt_9 rfl (lv_at hl 3 rfl) ?_
  refine lv_aload_n hx hb d_Md_linesAt_10 rfl (lv_at hl 0 rfl) ?_
  refine va_get (D := (dC, dI)) (ci := 3) (v := .int (nI n)) (C := R_Md) (T := F_Md) (N := 14) hx hb hts i_Md hown hK hP 0 rfl rfl 12 (by decide) (hts _ m_214) (fun _ h9 => h9) rfl d_Md_linesAt_11 ?_
  refine lv_icmp_ge (tgt := 44) hx hb d_Md_linesAt_14 (by decide) (fun c_14 => ?_) (fun c_14 => ?_)
  · rw [nI_leI (by omega) (by omega)] at c_14
    have hj : min j ca = ca := Nat.min_eq_right (by omega)
    refine lv_iload_n hx hb d_Md_linesAt_44 rfl (lv_at hl 1 rfl) ?_
    refine lv_if_ge (tgt := 52) hx hb d_Md_linesAt_45 (by decide) (fun c_45 => ?_) (fun c_45 => ?_)
    · refine lv_iload_n hx hb d_Md_linesAt_52 rfl (lv_at hl 2 rfl) ?_
      refine rt_iret hx hb hr hlocks () ?_ hP hK hD hS d_Md_linesAt_53
      try dsimp only
      exact by rw [rt_la, if_pos c_45, hj]
    · refine lv_iconst (v := 0) hx hb d_Md_linesAt_48 (by decide) ?_
      refine lv_goto (tgt := 53) hx hb d_Md_linesAt_49 (by decide) ?_
      refine rt_iret hx hb hr hlocks () ?_ hP hK hD hS d_Md_linesAt_53
      try dsimp only
      exact by rw [rt_la, if_neg c_45]
  · rw [nI_leI (by omega) (by omega)] at c_14
    refine lv_aload_n hx hb d_Md_linesAt_17 rfl (lv_at hl 0 rfl) ?_
    refine va_get (D := (dC, dI)) (ci := 3) (v := .ref h1) (C := R_Md) (T := F_Md) (N := 14) hx hb hts i_Md hown hK hP 0 rfl rfl 10 (by decide) (hts _ m_212) (fun _ h9 => h9) rfl d_Md_linesAt_18 ?_
    refine lv_iload_n hx hb d_Md_linesAt_21 rfl (lv_at hl 3 rfl) ?_
    refine rt_iald hx hb hK hP 1 0 rfl rfl j rfl (by omega) (by decide) d_Md_linesAt_22 ?_
    refine lv_iload_n hx hb d_Md_linesAt_23 rfl (lv_at hl 1 rfl) ?_
    refine lv_icmp_gt (tgt := 36) hx hb d_Md_linesAt_24 (by decide) (fun c_24 => ?_) (fun c_24 => ?_)
    · have hm : ca ≤ j := by
        rcases Nat.lt_or_ge j ca with q | q
        · exact absurd c_24 (rt_nlt.mpr (hc.2.1 _ q))
        · exact q
      refine lv_iload_n hx hb d_Md_linesAt_36 rfl (lv_at hl 2 rfl) ?_
      refine rt_topi (rt_lv g (min (j + 1) ca)) (by rw [Nat.min_eq_right (by omega), Nat.min_eq_right (by omega)]) ?_
      refine lv_istore_n (lv' := [(2, .int (rt_lv g (min (j + 1) ca))), (0, .ref h0), (1, .int a), (3, .int (nI j))]) hx hb d_Md_linesAt_37 rfl hl (by decide) rfl (fun ls hl => ?_)
      refine lv_iinc (v := (nI (j + 1))) (lv' := [(3, .int (nI (j + 1))), (2, .int (rt_lv g (min (j + 1) ca))), (0, .ref h0), (1, .int a)]) hx hb d_Md_linesAt_38 hl (k := 3) rfl (nI_1 j) (by decide) rfl (fun ls hl => ?_)
      refine lv_goto (tgt := 9) hx hb d_Md_linesAt_41 (by decide) ?_
      exact ih (j + 1) _ _ _ (by omega) ⟨by omega, rfl, rfl, lv_sub hl [2, 3, 1, 0] rfl⟩
    · have hm : j < ca := by
        rcases Nat.lt_or_ge j ca with q | q
        · exact q
        · exact absurd (hc.2.2 _ q (by omega)) c_24
      refine lv_aload_n hx hb d_Md_linesAt_27 rfl (lv_at hl 0 rfl) ?_
      refine va_get (D := (dC, dI)) (ci := 3) (v := .ref h2) (C := R_Md) (T := F_Md) (N := 14) hx hb hts i_Md hown hK hP 0 rfl rfl 11 (by decide) (hts _ m_213) (fun _ h9 => h9) rfl d_Md_linesAt_28 ?_
      refine lv_iload_n hx hb d_Md_linesAt_31 rfl (lv_at hl 3 rfl) ?_
      refine rt_iald hx hb hK hP 2 1 rfl rfl j rfl (by omega) (by decide) d_Md_linesAt_32 ?_
      refine rt_topi (rt_lv g (min (j + 1) ca)) (by rw [Nat.min_eq_left (by omega)]; simp [rt_lv]) ?_
      refine lv_goto (tgt := 37) hx hb d_Md_linesAt_33 (by decide) ?_
      refine lv_istore_n (lv' := [(2, .int (rt_lv g (min (j + 1) ca))), (0, .ref h0), (1, .int a), (3, .int (nI j))]) hx hb d_Md_linesAt_37 rfl hl (by decide) rfl (fun ls hl => ?_)
      refine lv_iinc (v := (nI (j + 1))) (lv' := [(3, .int (nI (j + 1))), (2, .int (rt_lv g (min (j + 1) ca))), (0, .ref h0), (1, .int a)]) hx hb d_Md_linesAt_38 hl (k := 3) rfl (nI_1 j) (by decide) rfl (fun ls hl => ?_)
      refine lv_goto (tgt := 9) hx hb d_Md_linesAt_41 (by decide) ?_
      exact ih (j + 1) _ _ _ (by omega) ⟨by omega, rfl, rfl, lv_sub hl [2, 3, 1, 0] rfl⟩
set_option maxHeartbeats 4000000 in
set_option maxRecDepth 100000 in
theorem c_Md_entryOf (l : Launch) (dC : Nat → ClassId) (dI : Nat → Nat → Nat) (h0 h1 h2 : Nat) (cC cV : ClassId) (sz : Nat) (rt ct pd cg pn mk sr sv tk : Int32) (n c : Nat) (f g : Nat → Int32) (a : Int32) (b : Int32) (hn : n ≤ 32) :
    rt_Ci l y_Md_entryOf b_Md_entryOf 3 (some .int) ({ frames := 0, cells := 0, slots := 0, locals := 0 } : Room) dC dI [(cC, .int), (cV, .int)] [(h0, .inr (3, [.int 0, .int rt, .int ct, .int pd, .int cg, .int pn, .int mk, .int sr, .int sv, .int tk, .ref h1, .ref h2, .int (nI n), .int (nI c)])), (h1, .inl (cC, 32, .inl f)), (h2, .inl (cV, 32, .inl g))] sz [.ref h0, .int a, .int b] (fun (r : Int32) (u : Unit) => r = rt_eo a b n f g) (fun _ => [(cC, .int), (cV, .int)]) (fun u => [(h0, .inr (3, [.int 0, .int rt, .int ct, .int pd, .int cg, .int pn, .int mk, .int sr, .int sv, .int tk, .ref h1, .ref h2, .int (nI n), .int (nI c)])), (h1, .inl (cC, 32, .inl f)), (h2, .inl (cV, 32, .inl g))]) 0 0 := by
  refine rt_meti (by decide) (Nat.le_of_ble_eq_true rfl) ?_
  intro p e s m below meth c_ A ls hx hb hr hml hown hts hlocks hin hP hK hD hN hA hS hl
  have hown : s.vm.findClass R_Md = some m.cls := hown
  have hl : lv_has ls 3 [(0, .ref h0), (1, .int a), (2, .int b)] := hl
  refine lv_aload_n hx hb d_Md_entryOf_0 rfl (lv_at hl 0 rfl) ?_
  refine lv_iconst (v := 0) hx hb d_Md_entryOf_1 (by decide) ?_
  refine va_put (D := (dC, dI)) (ci := 3) (v := .int 0) (ty := .int) (C := R_Md) (T := F_Md) (N := 14) hx hb hts i_Md t_Md t_Md_ok n_Md hown hK hP hD hS 0 rfl rfl 0 (by decide) (hts _ m_202) (fun _ h9 => h9) rfl (by decide +kernel) rfl rfl (Nat.le_of_ble_eq_true rfl) d_Md_entryOf_2 (fun H locs hP hD hS => ?_)
  have hP : va_P (dC, dI) classes [(h0, .inr (3, [.int 0, .int rt, .int ct, .int pd, .int cg, .int pn, .int mk, .int sr, .int sv, .int tk, .ref h1, .ref h2, .int (nI n), .int (nI c)])), (h1, .inl (cC, 32, .inl f)), (h2, .inl (cV, 32, .inl g))] H := hP
  have hD : va_D A [(h0, .inr (3, [.int 0, .int rt, .int ct, .int pd, .int cg, .int pn, .int mk, .int sr, .int sv, .int tk, .ref h1, .ref h2, .int (nI n), .int (nI c)])), (h1, .inl (cC, 32, .inl f)), (h2, .inl (cV, 32, .inl g))] := hD
  refine lv_iload_n hx hb d_Md_entryOf_5 rfl (lv_at hl 1 rfl) ?_
  refine lv_if_lt (tgt := 17) hx hb d_Md_entryOf_6 (by decide) (fun c_6 => ?_) (fun c_6 => ?_)
  · refine lv_iconst (v := (-1)) hx hb d_Md_entryOf_17 (by decide) ?_
    refine lv_goto (tgt := 40) hx hb d_Md_entryOf_18 (by decide) ?_
    refine rt_iret hx hb hr hlocks () ?_ hP hK hD hS d_Md_entryOf_40
    try dsimp only
    exact by simp only [rt_eo, if_pos c_6, eq_self, and_self]
  · refine lv_iload_n hx hb d_Md_entryOf_9 rfl (lv_at hl 1 rfl) ?_
    refine lv_aload_n hx hb d_Md_entryOf_10 rfl (lv_at hl 0 rfl) ?_
    refine va_get (D := (dC, dI)) (ci := 3) (v := .int (nI n)) (C := R_Md) (T := F_Md) (N := 14) hx hb hts i_Md hown hK hP 0 rfl rfl 12 (by decide) (hts _ m_214) (fun _ h9 => h9) rfl d_Md_entryOf_11 ?_
    refine lv_icmp_lt (tgt := 21) hx hb d_Md_entryOf_14 (by decide) (fun c_14 => ?_) (fun c_14 => ?_)
    · refine lv_iload_n hx hb d_Md_entryOf_21 rfl (lv_at hl 2 rfl) ?_
      refine lv_if_eq (tgt := 34) hx hb d_Md_entryOf_22 (by decide) (fun c_22 => ?_) (fun c_22 => ?_)
      · refine lv_aload_n hx hb d_Md_entryOf_34 rfl (lv_at hl 0 rfl) ?_
        refine va_get (D := (dC, dI)) (ci := 3) (v := .ref h1) (C := R_Md) (T := F_Md) (N := 14) hx hb hts i_Md hown hK hP 0 rfl rfl 10 (by decide) (hts _ m_212) (fun _ h9 => h9) rfl d_Md_entryOf_35 ?_
        refine lv_iload_n hx hb d_Md_entryOf_38 rfl (lv_at hl 1 rfl) ?_
        refine rt_iald hx hb hK hP 1 0 rfl rfl a.toNatClampNeg (rt_cl c_6) (rt_cl32 c_6 c_14 hn) (by decide) d_Md_entryOf_39 ?_
        refine rt_iret hx hb hr hlocks () ?_ hP hK hD hS d_Md_entryOf_40
        try dsimp only
        exact by simp only [rt_eo, if_neg c_6, if_pos c_14, if_pos c_22, eq_self, and_self]
      · refine lv_aload_n hx hb d_Md_entryOf_25 rfl (lv_at hl 0 rfl) ?_
        refine va_get (D := (dC, dI)) (ci := 3) (v := .ref h2) (C := R_Md) (T := F_Md) (N := 14) hx hb hts i_Md hown hK hP 0 rfl rfl 11 (by decide) (hts _ m_213) (fun _ h9 => h9) rfl d_Md_entryOf_26 ?_
        refine lv_iload_n hx hb d_Md_entryOf_29 rfl (lv_at hl 1 rfl) ?_
        refine rt_iald hx hb hK hP 2 1 rfl rfl a.toNatClampNeg (rt_cl c_6) (rt_cl32 c_6 c_14 hn) (by decide) d_Md_entryOf_30 ?_
        refine lv_goto (tgt := 40) hx hb d_Md_entryOf_31 (by decide) ?_
        refine rt_iret hx hb hr hlocks () ?_ hP hK hD hS d_Md_entryOf_40
        try dsimp only
        exact by simp only [rt_eo, if_neg c_6, if_pos c_14, if_neg c_22, eq_self, and_self]
    · refine lv_iconst (v := (-1)) hx hb d_Md_entryOf_17 (by decide) ?_
      refine lv_goto (tgt := 40) hx hb d_Md_entryOf_18 (by decide) ?_
      refine rt_iret hx hb hr hlocks () ?_ hP hK hD hS d_Md_entryOf_40
      try dsimp only
      exact by simp only [rt_eo, if_neg c_6, if_neg c_14, eq_self, and_self]
set_option maxHeartbeats 4000000 in
set_option maxRecDepth 100000 in
theorem c_Md_look (l : Launch) (dC : Nat → ClassId) (dI : Nat → Nat → Nat) (h0 h1 h2 : Nat) (cC cV : ClassId) (sz : Nat) (rt ct pd cg pn mk sr sv tk : Int32) (n c : Nat) (f g : Nat → Int32) (w : Int32) (hn : n ≤ 32) (hcn : c ≤ n) :
    rt_Ci l y_Md_look b_Md_look 2 (some .int) ({ frames := 2, cells := 0, slots := 0, locals := 40 } : Room) dC dI [(cC, .int), (cV, .int)] [(h0, .inr (3, [.int 0, .int rt, .int ct, .int pd, .int cg, .int pn, .int mk, .int sr, .int sv, .int tk, .ref h1, .ref h2, .int (nI n), .int (nI c)])), (h1, .inl (cC, 32, .inl f)), (h2, .inl (cV, 32, .inl g))] sz [.ref h0, .int w] (fun (r : Int32) (u : Unit) => r = rt_lk w rt ct pd pn cg mk (rt_lv g c) sr sv tk n (rt_dm sr pn mk (rt_lv g c))) (fun _ => [(cC, .int), (cV, .int)]) (fun u => [(h0, .inr (3, [.int 0, .int rt, .int ct, .int pd, .int cg, .int pn, .int mk, .int sr, .int sv, .int tk, .ref h1, .ref h2, .int (nI n), .int (nI c)])), (h1, .inl (cC, 32, .inl f)), (h2, .inl (cV, 32, .inl g))]) 0 0 := by
  refine rt_meti (by decide) (Nat.le_of_ble_eq_true rfl) ?_
  intro p e s m below meth c_ A ls hx hb hr hml hown hts hlocks hin hP hK hD hN hA hS hl
  have hown : s.vm.findClass R_Md = some m.cls := hown
  have hl : lv_has ls 2 [(0, .ref h0), (1, .int w)] := hl
  refine lv_aload_n hx hb d_Md_look_0 rfl (lv_at hl 0 rfl) ?_
  refine lv_iconst (v := 0) hx hb d_Md_look_1 (by decide) ?_
  refine va_put (D := (dC, dI)) (ci := 3) (v := .int 0) (ty := .int) (C := R_Md) (T := F_Md) (N := 14) hx hb hts i_Md t_Md t_Md_ok n_Md hown hK hP hD hS 0 rfl rfl 0 (by decide) (hts _ m_202) (fun _ h9 => h9) rfl (by decide +kernel) rfl rfl (Nat.le_of_ble_eq_true rfl) d_Md_look_2 (fun H locs hP hD hS => ?_)
  have hP : va_P (dC, dI) classes [(h0, .inr (3, [.int 0, .int rt, .int ct, .int pd, .int cg, .int pn, .int mk, .int sr, .int sv, .int tk, .ref h1, .ref h2, .int (nI n), .int (nI c)])), (h1, .inl (cC, 32, .inl f)), (h2, .inl (cV, 32, .inl g))] H := hP
  have hD : va_D A [(h0, .inr (3, [.int 0, .int rt, .int ct, .int pd, .int cg, .int pn, .int mk, .int sr, .int sv, .int tk, .ref h1, .ref h2, .int (nI n), .int (nI c)])), (h1, .inl (cC, 32, .inl f)), (h2, .inl (cV, 32, .inl g))] := hD
  refine lv_iload_n hx hb d_Md_look_5 rfl (lv_at hl 1 rfl) ?_
  by_cases e_0 : w = 0
  · refine rt_topi 0 e_0 ?_
    refine lv_tableIn (tgt := 68) hx hb d_Md_look_6 (by decide) (by decide) rfl (by decide) ?_
    refine lv_aload_n hx hb d_Md_look_68 rfl (lv_at hl 0 rfl) ?_
    refine va_get (D := (dC, dI)) (ci := 3) (v := .int rt) (C := R_Md) (T := F_Md) (N := 14) hx hb hts i_Md hown hK hP 0 rfl rfl 1 (by decide) (hts _ m_203) (fun _ h9 => h9) rfl d_Md_look_69 ?_
    refine rt_iret hx hb hr hlocks () ?_ hP hK hD hS d_Md_look_72
    try dsimp only
    exact by simp only [rt_lk, rt_b1, if_pos e_0, eq_self]
  · skip
    by_cases e_1 : w = 1
    · refine rt_topi 1 e_1 ?_
      refine lv_tableIn (tgt := 73) hx hb d_Md_look_6 (by decide) (by decide) rfl (by decide) ?_
      refine lv_aload_n hx hb d_Md_look_73 rfl (lv_at hl 0 rfl) ?_
      refine va_get (D := (dC, dI)) (ci := 3) (v := .int ct) (C := R_Md) (T := F_Md) (N := 14) hx hb hts i_Md hown hK hP 0 rfl rfl 2 (by decide) (hts _ m_204) (fun _ h9 => h9) rfl d_Md_look_74 ?_
      refine rt_iret hx hb hr hlocks () ?_ hP hK hD hS d_Md_look_77
      try dsimp only
      exact by simp only [rt_lk, rt_b1, if_neg e_0, if_pos e_1, eq_self]
    · skip
      by_cases e_2 : w = 2
      · refine rt_topi 2 e_2 ?_
        refine lv_tableIn (tgt := 78) hx hb d_Md_look_6 (by decide) (by decide) rfl (by decide) ?_
        refine lv_aload_n hx hb d_Md_look_78 rfl (lv_at hl 0 rfl) ?_
        refine va_get (D := (dC, dI)) (ci := 3) (v := .int pd) (C := R_Md) (T := F_Md) (N := 14) hx hb hts i_Md hown hK hP 0 rfl rfl 3 (by decide) (hts _ m_205) (fun _ h9 => h9) rfl d_Md_look_79 ?_
        refine rt_iret hx hb hr hlocks () ?_ hP hK hD hS d_Md_look_82
        try dsimp only
        exact by simp only [rt_lk, rt_b1, if_neg e_0, if_neg e_1, if_pos e_2, eq_self]
      · skip
        by_cases e_3 : w = 3
        · refine rt_topi 3 e_3 ?_
          refine lv_tableIn (tgt := 83) hx hb d_Md_look_6 (by decide) (by decide) rfl (by decide) ?_
          refine lv_aload_n hx hb d_Md_look_83 rfl (lv_at hl 0 rfl) ?_
          refine va_get (D := (dC, dI)) (ci := 3) (v := .int pn) (C := R_Md) (T := F_Md) (N := 14) hx hb hts i_Md hown hK hP 0 rfl rfl 5 (by decide) (hts _ m_207) (fun _ h9 => h9) rfl d_Md_look_84 ?_
          refine lv_if_eq (tgt := 94) hx hb d_Md_look_87 (by decide) (fun c_87 => ?_) (fun c_87 => ?_)
          · refine lv_iconst (v := 0) hx hb d_Md_look_94 (by decide) ?_
            refine rt_iret hx hb hr hlocks () ?_ hP hK hD hS d_Md_look_95
            try dsimp only
            exact by simp only [rt_lk, rt_b1, if_neg e_0, if_neg e_1, if_neg e_2, if_pos e_3, if_pos c_87, eq_self]
          · refine lv_iconst (v := 1) hx hb d_Md_look_90 (by decide) ?_
            refine lv_goto (tgt := 95) hx hb d_Md_look_91 (by decide) ?_
            refine rt_iret hx hb hr hlocks () ?_ hP hK hD hS d_Md_look_95
            try dsimp only
            exact by simp only [rt_lk, rt_b1, if_neg e_0, if_neg e_1, if_neg e_2, if_pos e_3, if_neg c_87, eq_self]
        · skip
          by_cases e_4 : w = 4
          · refine rt_topi 4 e_4 ?_
            refine lv_tableIn (tgt := 96) hx hb d_Md_look_6 (by decide) (by decide) rfl (by decide) ?_
            refine lv_aload_n hx hb d_Md_look_96 rfl (lv_at hl 0 rfl) ?_
            refine va_get (D := (dC, dI)) (ci := 3) (v := .int cg) (C := R_Md) (T := F_Md) (N := 14) hx hb hts i_Md hown hK hP 0 rfl rfl 4 (by decide) (hts _ m_206) (fun _ h9 => h9) rfl d_Md_look_97 ?_
            refine lv_if_eq (tgt := 107) hx hb d_Md_look_100 (by decide) (fun c_100 => ?_) (fun c_100 => ?_)
            · refine lv_iconst (v := 0) hx hb d_Md_look_107 (by decide) ?_
              refine rt_iret hx hb hr hlocks () ?_ hP hK hD hS d_Md_look_108
              try dsimp only
              exact by simp only [rt_lk, rt_b1, if_neg e_0, if_neg e_1, if_neg e_2, if_neg e_3, if_pos e_4, if_pos c_100, eq_self]
            · refine lv_iconst (v := 1) hx hb d_Md_look_103 (by decide) ?_
              refine lv_goto (tgt := 108) hx hb d_Md_look_104 (by decide) ?_
              refine rt_iret hx hb hr hlocks () ?_ hP hK hD hS d_Md_look_108
              try dsimp only
              exact by simp only [rt_lk, rt_b1, if_neg e_0, if_neg e_1, if_neg e_2, if_neg e_3, if_pos e_4, if_neg c_100, eq_self]
          · skip
            by_cases e_5 : w = 5
            · refine rt_topi 5 e_5 ?_
              refine lv_tableIn (tgt := 109) hx hb d_Md_look_6 (by decide) (by decide) rfl (by decide) ?_
              refine lv_aload_n hx hb d_Md_look_109 rfl (lv_at hl 0 rfl) ?_
              refine va_get (D := (dC, dI)) (ci := 3) (v := .int mk) (C := R_Md) (T := F_Md) (N := 14) hx hb hts i_Md hown hK hP 0 rfl rfl 6 (by decide) (hts _ m_208) (fun _ h9 => h9) rfl d_Md_look_110 ?_
              refine rt_iret hx hb hr hlocks () ?_ hP hK hD hS d_Md_look_113
              try dsimp only
              exact by simp only [rt_lk, rt_b1, if_neg e_0, if_neg e_1, if_neg e_2, if_neg e_3, if_neg e_4, if_pos e_5, eq_self]
            · skip
              by_cases e_6 : w = 6
              · refine rt_topi 6 e_6 ?_
                refine lv_tableIn (tgt := 114) hx hb d_Md_look_6 (by decide) (by decide) rfl (by decide) ?_
                refine lv_aload_n hx hb d_Md_look_114 rfl (lv_at hl 0 rfl) ?_
                refine rt_gi (wr := []) (rt_runV (rest := []) ⟨hx, hb, hml, hown, hts⟩ (c_Md_linesNow l dC dI h0 h1 h2 cC cV H.size rt ct pd cg pn mk sr sv tk n c f g hn hcn) (rt_gV m_262 m_264 m_7 m_13 m_265) hd_Md_linesNow ⟨Nat.le_of_ble_eq_true rfl, Nat.le_of_ble_eq_true rfl, rfl, rfl⟩ hP hK hD hN [0, 1, 2] [0, 1] (by decide) rfl rfl rfl rfl rfl hl.1 rfl (Nat.le_of_ble_eq_true rfl) d_Md_look_115 ⟨Nat.le_of_ble_eq_true rfl, Nat.le_of_ble_eq_true rfl⟩) hP hD hS hA [0, 1, 2] [] rfl rfl (by decide) (by decide) (fun r_115 u_115 H locs hw_115 hP hD hS _ => ?_)
                try dsimp only at hw_115
                have w0_115 := hw_115
                obtain rfl := w0_115.symm
                have hP : va_P (dC, dI) classes [(h0, .inr (3, [.int 0, .int rt, .int ct, .int pd, .int cg, .int pn, .int mk, .int sr, .int sv, .int tk, .ref h1, .ref h2, .int (nI n), .int (nI c)])), (h1, .inl (cC, 32, .inl f)), (h2, .inl (cV, 32, .inl g))] H := hP
                have hD : va_D A [(h0, .inr (3, [.int 0, .int rt, .int ct, .int pd, .int cg, .int pn, .int mk, .int sr, .int sv, .int tk, .ref h1, .ref h2, .int (nI n), .int (nI c)])), (h1, .inl (cC, 32, .inl f)), (h2, .inl (cV, 32, .inl g))] := hD
                refine rt_iret hx hb hr hlocks () ?_ hP hK hD hS d_Md_look_118
                try dsimp only
                exact by simp only [rt_lk, rt_b1, if_neg e_0, if_neg e_1, if_neg e_2, if_neg e_3, if_neg e_4, if_neg e_5, if_pos e_6, eq_self]
              · skip
                by_cases e_7 : w = 7
                · refine rt_topi 7 e_7 ?_
                  refine lv_tableIn (tgt := 119) hx hb d_Md_look_6 (by decide) (by decide) rfl (by decide) ?_
                  refine lv_aload_n hx hb d_Md_look_119 rfl (lv_at hl 0 rfl) ?_
                  refine va_get (D := (dC, dI)) (ci := 3) (v := .int sr) (C := R_Md) (T := F_Md) (N := 14) hx hb hts i_Md hown hK hP 0 rfl rfl 7 (by decide) (hts _ m_209) (fun _ h9 => h9) rfl d_Md_look_120 ?_
                  refine rt_iret hx hb hr hlocks () ?_ hP hK hD hS d_Md_look_123
                  try dsimp only
                  exact by simp only [rt_lk, rt_b1, if_neg e_0, if_neg e_1, if_neg e_2, if_neg e_3, if_neg e_4, if_neg e_5, if_neg e_6, if_pos e_7, eq_self]
                · skip
                  by_cases e_8 : w = 8
                  · refine rt_topi 8 e_8 ?_
                    refine lv_tableIn (tgt := 124) hx hb d_Md_look_6 (by decide) (by decide) rfl (by decide) ?_
                    refine lv_aload_n hx hb d_Md_look_124 rfl (lv_at hl 0 rfl) ?_
                    refine va_get (D := (dC, dI)) (ci := 3) (v := .int sv) (C := R_Md) (T := F_Md) (N := 14) hx hb hts i_Md hown hK hP 0 rfl rfl 8 (by decide) (hts _ m_210) (fun _ h9 => h9) rfl d_Md_look_125 ?_
                    refine rt_iret hx hb hr hlocks () ?_ hP hK hD hS d_Md_look_128
                    try dsimp only
                    exact by simp only [rt_lk, rt_b1, if_neg e_0, if_neg e_1, if_neg e_2, if_neg e_3, if_neg e_4, if_neg e_5, if_neg e_6, if_neg e_7, if_pos e_8, eq_self]
                  · skip
                    by_cases e_9 : w = 9
                    · refine rt_topi 9 e_9 ?_
                      refine lv_tableIn (tgt := 129) hx hb d_Md_look_6 (by decide) (by decide) rfl (by decide) ?_
                      refine lv_aload_n hx hb d_Md_look_129 rfl (lv_at hl 0 rfl) ?_
                      refine va_get (D := (dC, dI)) (ci := 3) (v := .int tk) (C := R_Md) (T := F_Md) (N := 14) hx hb hts i_Md hown hK hP 0 rfl rfl 9 (by decide) (hts _ m_211) (fun _ h9 => h9) rfl d_Md_look_130 ?_
                      refine rt_iret hx hb hr hlocks () ?_ hP hK hD hS d_Md_look_133
                      try dsimp only
                      exact by simp only [rt_lk, rt_b1, if_neg e_0, if_neg e_1, if_neg e_2, if_neg e_3, if_neg e_4, if_neg e_5, if_neg e_6, if_neg e_7, if_neg e_8, if_pos e_9, eq_self]
                    · skip
                      by_cases e_10 : w = 10
                      · refine rt_topi 10 e_10 ?_
                        refine lv_tableIn (tgt := 134) hx hb d_Md_look_6 (by decide) (by decide) rfl (by decide) ?_
                        refine lv_aload_n hx hb d_Md_look_134 rfl (lv_at hl 0 rfl) ?_
                        refine va_get (D := (dC, dI)) (ci := 3) (v := .int (nI n)) (C := R_Md) (T := F_Md) (N := 14) hx hb hts i_Md hown hK hP 0 rfl rfl 12 (by decide) (hts _ m_214) (fun _ h9 => h9) rfl d_Md_look_135 ?_
                        refine rt_iret hx hb hr hlocks () ?_ hP hK hD hS d_Md_look_138
                        try dsimp only
                        exact by simp only [rt_lk, rt_b1, if_neg e_0, if_neg e_1, if_neg e_2, if_neg e_3, if_neg e_4, if_neg e_5, if_neg e_6, if_neg e_7, if_neg e_8, if_neg e_9, if_pos e_10, eq_self]
                      · skip
                        by_cases e_11 : w = 11
                        · refine rt_topi 11 e_11 ?_
                          refine lv_tableIn (tgt := 139) hx hb d_Md_look_6 (by decide) (by decide) rfl (by decide) ?_
                          refine lv_aload_n hx hb d_Md_look_139 rfl (lv_at hl 0 rfl) ?_
                          refine rt_gi (wr := []) (rt_runV (rest := []) ⟨hx, hb, hml, hown, hts⟩ (c_Md_due l dC dI h0 h1 h2 cC cV H.size rt ct pd cg pn mk sr sv tk n c f g hn hcn) (rt_gV m_258 m_260 m_6 m_13 m_261) hd_Md_due ⟨Nat.le_of_ble_eq_true rfl, Nat.le_of_ble_eq_true rfl, rfl, rfl⟩ hP hK hD hN [0, 1, 2] [0, 1] (by decide) rfl rfl rfl rfl rfl hl.1 rfl (Nat.le_of_ble_eq_true rfl) d_Md_look_140 ⟨Nat.le_of_ble_eq_true rfl, Nat.le_of_ble_eq_true rfl⟩) hP hD hS hA [0, 1, 2] [] rfl rfl (by decide) (by decide) (fun r_140 u_140 H locs hw_140 hP hD hS _ => ?_)
                          try dsimp only at hw_140
                          have w0_140 := hw_140
                          obtain rfl := w0_140.symm
                          have hP : va_P (dC, dI) classes [(h0, .inr (3, [.int 0, .int rt, .int ct, .int pd, .int cg, .int pn, .int mk, .int sr, .int sv, .int tk, .ref h1, .ref h2, .int (nI n), .int (nI c)])), (h1, .inl (cC, 32, .inl f)), (h2, .inl (cV, 32, .inl g))] H := hP
                          have hD : va_D A [(h0, .inr (3, [.int 0, .int rt, .int ct, .int pd, .int cg, .int pn, .int mk, .int sr, .int sv, .int tk, .ref h1, .ref h2, .int (nI n), .int (nI c)])), (h1, .inl (cC, 32, .inl f)), (h2, .inl (cV, 32, .inl g))] := hD
                          refine rt_iret hx hb hr hlocks () ?_ hP hK hD hS d_Md_look_143
                          try dsimp only
                          exact by simp only [rt_lk, rt_b1, if_neg e_0, if_neg e_1, if_neg e_2, if_neg e_3, if_neg e_4, if_neg e_5, if_neg e_6, if_neg e_7, if_neg e_8, if_neg e_9, if_neg e_10, if_pos e_11, eq_self]
                        · skip
                          refine lv_tableOut (tgt := 144) hx hb d_Md_look_6 (by have q0 := lv_neT e_0 (a := 0) rfl; have q1 := lv_neT e_1 (a := 1) rfl; have q2 := lv_neT e_2 (a := 2) rfl; have q3 := lv_neT e_3 (a := 3) rfl; have q4 := lv_neT e_4 (a := 4) rfl; have q5 := lv_neT e_5 (a := 5) rfl; have q6 := lv_neT e_6 (a := 6) rfl; have q7 := lv_neT e_7 (a := 7) rfl; have q8 := lv_neT e_8 (a := 8) rfl; have q9 := lv_neT e_9 (a := 9) rfl; have q10 := lv_neT e_10 (a := 10) rfl; have q11 := lv_neT e_11 (a := 11) rfl; omega) (by decide) ?_
                          refine lv_iconst (v := (-1)) hx hb d_Md_look_144 (by decide) ?_
                          refine rt_iret hx hb hr hlocks () ?_ hP hK hD hS d_Md_look_145
                          try dsimp only
                          exact by simp only [rt_lk, rt_b1, if_neg e_0, if_neg e_1, if_neg e_2, if_neg e_3, if_neg e_4, if_neg e_5, if_neg e_6, if_neg e_7, if_neg e_8, if_neg e_9, if_neg e_10, if_neg e_11, eq_self]
set_option maxHeartbeats 4000000 in
set_option maxRecDepth 100000 in
theorem c_Md_entry (l : Launch) (dC : Nat → ClassId) (dI : Nat → Nat → Nat) (h0 h1 h2 : Nat) (cC cV : ClassId) (sz : Nat) (rt ct pd cg pn mk sr sv tk : Int32) (n c : Nat) (f g : Nat → Int32) (a : Int32) (b : Int32) (hn : n ≤ 32) (hs : rt_so f n) (hc : rt_cut f n rt c) :
    rt_Ci l y_Md_entry b_Md_entry 3 (some .boolean) ({ frames := 1, cells := 0, slots := 0, locals := 20 } : Room) dC dI [(cC, .int), (cV, .int)] [(h0, .inr (3, [.int 0, .int rt, .int ct, .int pd, .int cg, .int pn, .int mk, .int sr, .int sv, .int tk, .ref h1, .ref h2, .int (nI n), .int (nI c)])), (h1, .inl (cC, 32, .inl f)), (h2, .inl (cV, 32, .inl g))] sz [.ref h0, .int a, .int b] (fun (r : Int32) (u : Nat × (Nat → Int32) × (Nat → Int32) × Nat) => r = rt_er f n a ∧ u.1 = rt_en f n a ∧ u.2.1 = rt_ef f n a ∧ u.2.2.1 = rt_eg f g n a b ∧ rt_cut u.2.1 u.1 rt u.2.2.2) (fun _ => [(cC, .int), (cV, .int)]) (fun u => [(h0, .inr (3, [.int 0, .int rt, .int ct, .int pd, .int cg, .int pn, .int mk, .int sr, .int sv, .int tk, .ref h1, .ref h2, .int (nI u.1), .int (nI u.2.2.2)])), (h1, .inl (cC, 32, .inl u.2.1)), (h2, .inl (cV, 32, .inl u.2.2.1))]) 0 0 := by
  refine rt_meti (by decide) (Nat.le_of_ble_eq_true rfl) ?_
  intro p e s m below meth c_ A ls hx hb hr hml hown hts hlocks hin hP hK hD hN hA hS hl
  have hown : s.vm.findClass R_Md = some m.cls := hown
  have hl : lv_has ls 3 [(0, .ref h0), (1, .int a), (2, .int b)] := hl
  refine lv_aload_n hx hb d_Md_entry_0 rfl (lv_at hl 0 rfl) ?_
  refine lv_iconst (v := 0) hx hb d_Md_entry_1 (by decide) ?_
  refine va_put (D := (dC, dI)) (ci := 3) (v := .int 0) (ty := .int) (C := R_Md) (T := F_Md) (N := 14) hx hb hts i_Md t_Md t_Md_ok n_Md hown hK hP hD hS 0 rfl rfl 0 (by decide) (hts _ m_202) (fun _ h9 => h9) rfl (by decide +kernel) rfl rfl (Nat.le_of_ble_eq_true rfl) d_Md_entry_2 (fun H locs hP hD hS => ?_)
  have hP : va_P (dC, dI) classes [(h0, .inr (3, [.int 0, .int rt, .int ct, .int pd, .int cg, .int pn, .int mk, .int sr, .int sv, .int tk, .ref h1, .ref h2, .int (nI n), .int (nI c)])), (h1, .inl (cC, 32, .inl f)), (h2, .inl (cV, 32, .inl g))] H := hP
  have hD : va_D A [(h0, .inr (3, [.int 0, .int rt, .int ct, .int pd, .int cg, .int pn, .int mk, .int sr, .int sv, .int tk, .ref h1, .ref h2, .int (nI n), .int (nI c)])), (h1, .inl (cC, 32, .inl f)), (h2, .inl (cV, 32, .inl g))] := hD
  refine lv_iload_n hx hb d_Md_entry_5 rfl (lv_at hl 1 rfl) ?_
  refine lv_if_lt (tgt := 51) hx hb d_Md_entry_6 (by decide) (fun c_6 => ?_) (fun c_6 => ?_)
  · refine lv_iconst (v := 0) hx hb d_Md_entry_51 (by decide) ?_
    refine rt_zret hx hb hr hlocks rfl (n, f, g, c) ?_ hP hK hD hS d_Md_entry_52
    try dsimp only
    exact by have hok : ¬ rt_ok f n a = true := (by simp [rt_ok, c_6]); exact ⟨by rw [rt_er, if_neg hok], by rw [rt_en, if_neg hok], by rw [rt_ef, if_neg hok], by rw [rt_eg, if_neg hok], hc⟩
  · refine lv_aload_n hx hb d_Md_entry_9 rfl (lv_at hl 0 rfl) ?_
    refine va_get (D := (dC, dI)) (ci := 3) (v := .int (nI n)) (C := R_Md) (T := F_Md) (N := 14) hx hb hts i_Md hown hK hP 0 rfl rfl 12 (by decide) (hts _ m_214) (fun _ h9 => h9) rfl d_Md_entry_10 ?_
    refine lv_bipush (v := 32) hx hb d_Md_entry_13 (by decide) ?_
    refine lv_icmp_eq (tgt := 51) hx hb d_Md_entry_15 (by decide) (fun c_15 => ?_) (fun c_15 => ?_)
    · rw [rt_n32 hn] at c_15
      refine lv_iconst (v := 0) hx hb d_Md_entry_51 (by decide) ?_
      refine rt_zret hx hb hr hlocks rfl (n, f, g, c) ?_ hP hK hD hS d_Md_entry_52
      try dsimp only
      exact by have hok : ¬ rt_ok f n a = true := (by simp [rt_ok, c_6, c_15]); exact ⟨by rw [rt_er, if_neg hok], by rw [rt_en, if_neg hok], by rw [rt_ef, if_neg hok], by rw [rt_eg, if_neg hok], hc⟩
    · rw [rt_n32 hn] at c_15
      refine lv_aload_n hx hb d_Md_entry_18 rfl (lv_at hl 0 rfl) ?_
      refine va_get (D := (dC, dI)) (ci := 3) (v := .int (nI n)) (C := R_Md) (T := F_Md) (N := 14) hx hb hts i_Md hown hK hP 0 rfl rfl 12 (by decide) (hts _ m_214) (fun _ h9 => h9) rfl d_Md_entry_19 ?_
      refine lv_if_le (tgt := 53) hx hb d_Md_entry_22 (by decide) (fun c_22 => ?_) (fun c_22 => ?_)
      · rw [rt_n0 hn] at c_22
        refine lv_aload_n hx hb d_Md_entry_53 rfl (lv_at hl 0 rfl) ?_
        refine va_get (D := (dC, dI)) (ci := 3) (v := .ref h1) (C := R_Md) (T := F_Md) (N := 14) hx hb hts i_Md hown hK hP 0 rfl rfl 10 (by decide) (hts _ m_212) (fun _ h9 => h9) rfl d_Md_entry_54 ?_
        refine lv_aload_n hx hb d_Md_entry_57 rfl (lv_at hl 0 rfl) ?_
        refine va_get (D := (dC, dI)) (ci := 3) (v := .int (nI n)) (C := R_Md) (T := F_Md) (N := 14) hx hb hts i_Md hown hK hP 0 rfl rfl 12 (by decide) (hts _ m_214) (fun _ h9 => h9) rfl d_Md_entry_58 ?_
        refine lv_iload_n hx hb d_Md_entry_61 rfl (lv_at hl 1 rfl) ?_
        refine rt_iast hx hb hK hP hD hS 1 0 rfl rfl n rfl (by omega) (by decide) d_Md_entry_62 (fun H locs hP hD hS => ?_)
        have hP : va_P (dC, dI) classes [(h0, .inr (3, [.int 0, .int rt, .int ct, .int pd, .int cg, .int pn, .int mk, .int sr, .int sv, .int tk, .ref h1, .ref h2, .int (nI n), .int (nI c)])), (h1, .inl (cC, 32, .inl (upd f n a))), (h2, .inl (cV, 32, .inl g))] H := hP
        have hD : va_D A [(h0, .inr (3, [.int 0, .int rt, .int ct, .int pd, .int cg, .int pn, .int mk, .int sr, .int sv, .int tk, .ref h1, .ref h2, .int (nI n), .int (nI c)])), (h1, .inl (cC, 32, .inl (upd f n a))), (h2, .inl (cV, 32, .inl g))] := hD
        refine lv_aload_n hx hb d_Md_entry_63 rfl (lv_at hl 0 rfl) ?_
        refine va_get (D := (dC, dI)) (ci := 3) (v := .ref h2) (C := R_Md) (T := F_Md) (N := 14) hx hb hts i_Md hown hK hP 0 rfl rfl 11 (by decide) (hts _ m_213) (fun _ h9 => h9) rfl d_Md_entry_64 ?_
        refine lv_aload_n hx hb d_Md_entry_67 rfl (lv_at hl 0 rfl) ?_
        refine va_get (D := (dC, dI)) (ci := 3) (v := .int (nI n)) (C := R_Md) (T := F_Md) (N := 14) hx hb hts i_Md hown hK hP 0 rfl rfl 12 (by decide) (hts _ m_214) (fun _ h9 => h9) rfl d_Md_entry_68 ?_
        refine lv_iload_n hx hb d_Md_entry_71 rfl (lv_at hl 2 rfl) ?_
        refine rt_iast hx hb hK hP hD hS 2 1 rfl rfl n rfl (by omega) (by decide) d_Md_entry_72 (fun H locs hP hD hS => ?_)
        have hP : va_P (dC, dI) classes [(h0, .inr (3, [.int 0, .int rt, .int ct, .int pd, .int cg, .int pn, .int mk, .int sr, .int sv, .int tk, .ref h1, .ref h2, .int (nI n), .int (nI c)])), (h1, .inl (cC, 32, .inl (upd f n a))), (h2, .inl (cV, 32, .inl (upd g n b)))] H := hP
        have hD : va_D A [(h0, .inr (3, [.int 0, .int rt, .int ct, .int pd, .int cg, .int pn, .int mk, .int sr, .int sv, .int tk, .ref h1, .ref h2, .int (nI n), .int (nI c)])), (h1, .inl (cC, 32, .inl (upd f n a))), (h2, .inl (cV, 32, .inl (upd g n b)))] := hD
        refine lv_aload_n hx hb d_Md_entry_73 rfl (lv_at hl 0 rfl) ?_
        refine lv_dup hx hb d_Md_entry_74 rfl ?_
        refine va_get (D := (dC, dI)) (ci := 3) (v := .int (nI n)) (C := R_Md) (T := F_Md) (N := 14) hx hb hts i_Md hown hK hP 0 rfl rfl 12 (by decide) (hts _ m_214) (fun _ h9 => h9) rfl d_Md_entry_75 ?_
        refine lv_iconst (v := 1) hx hb d_Md_entry_78 (by decide) ?_
        refine lv_iadd hx hb d_Md_entry_79 ?_
        refine rt_topi (nI (n + 1)) (nI_1 n) ?_
        refine va_put (D := (dC, dI)) (ci := 3) (v := .int (nI (n + 1))) (ty := .int) (C := R_Md) (T := F_Md) (N := 14) hx hb hts i_Md t_Md t_Md_ok n_Md hown hK hP hD hS 0 rfl rfl 12 (by decide) (hts _ m_214) (fun _ h9 => h9) rfl (by decide +kernel) rfl rfl (Nat.le_of_ble_eq_true rfl) d_Md_entry_80 (fun H locs hP hD hS => ?_)
        have hP : va_P (dC, dI) classes [(h0, .inr (3, [.int 0, .int rt, .int ct, .int pd, .int cg, .int pn, .int mk, .int sr, .int sv, .int tk, .ref h1, .ref h2, .int (nI (n + 1)), .int (nI c)])), (h1, .inl (cC, 32, .inl (upd f n a))), (h2, .inl (cV, 32, .inl (upd g n b)))] H := hP
        have hD : va_D A [(h0, .inr (3, [.int 0, .int rt, .int ct, .int pd, .int cg, .int pn, .int mk, .int sr, .int sv, .int tk, .ref h1, .ref h2, .int (nI (n + 1)), .int (nI c)])), (h1, .inl (cC, 32, .inl (upd f n a))), (h2, .inl (cV, 32, .inl (upd g n b)))] := hD
        refine lv_aload_n hx hb d_Md_entry_83 rfl (lv_at hl 0 rfl) ?_
        have hok : rt_ok f n a = true := by simp [rt_ok, c_6, c_15, c_22]
        obtain ⟨c1, hc1, hcc⟩ := rt_cut_in hs hc hok
        refine rt_gv (wr := []) (rt_runV (rest := []) ⟨hx, hb, hml, hown, hts⟩ (c_Md_goOn l dC dI h0 h1 h2 cC cV H.size rt ct pd cg pn mk sr sv tk (n + 1) c (upd f n a) (upd g n b) c1 (by omega) hcc hc1) (rt_gV m_249 m_251 m_5 m_13 m_252) hd_Md_goOn ⟨Nat.le_of_ble_eq_true rfl, Nat.le_of_ble_eq_true rfl, rfl, rfl⟩ hP hK hD hN [0, 1, 2] [0, 1] (by decide) rfl rfl rfl rfl rfl hl.1 rfl (Nat.le_of_ble_eq_true rfl) d_Md_entry_84 ⟨Nat.le_of_ble_eq_true rfl, Nat.le_of_ble_eq_true rfl⟩) hP hD hS hA [0, 1, 2] [] rfl rfl (by decide) (by decide) (fun c_84 H locs hw_84 hP hD hS _ => ?_)
        try dsimp only at hw_84
        have w0_84 := hw_84
        obtain rfl := w0_84.symm
        have hP : va_P (dC, dI) classes [(h0, .inr (3, [.int 0, .int rt, .int ct, .int pd, .int cg, .int pn, .int mk, .int sr, .int sv, .int tk, .ref h1, .ref h2, .int (nI (n + 1)), .int (nI c1)])), (h1, .inl (cC, 32, .inl (upd f n a))), (h2, .inl (cV, 32, .inl (upd g n b)))] H := hP
        have hD : va_D A [(h0, .inr (3, [.int 0, .int rt, .int ct, .int pd, .int cg, .int pn, .int mk, .int sr, .int sv, .int tk, .ref h1, .ref h2, .int (nI (n + 1)), .int (nI c1)])), (h1, .inl (cC, 32, .inl (upd f n a))), (h2, .inl (cV, 32, .inl (upd g n b)))] := hD
        refine lv_iconst (v := 1) hx hb d_Md_entry_87 (by decide) ?_
        refine rt_zret hx hb hr hlocks rfl ((n + 1), upd f n a, upd g n b, c1) ?_ hP hK hD hS d_Md_entry_88
        exact ⟨by rw [rt_er, if_pos hok], by rw [rt_en, if_pos hok], by rw [rt_ef, if_pos hok], by rw [rt_eg, if_pos hok], hc1⟩
      · rw [rt_n0 hn] at c_22
        refine lv_iload_n hx hb d_Md_entry_25 rfl (lv_at hl 1 rfl) ?_
        refine lv_aload_n hx hb d_Md_entry_26 rfl (lv_at hl 0 rfl) ?_
        refine va_get (D := (dC, dI)) (ci := 3) (v := .ref h1) (C := R_Md) (T := F_Md) (N := 14) hx hb hts i_Md hown hK hP 0 rfl rfl 10 (by decide) (hts _ m_212) (fun _ h9 => h9) rfl d_Md_entry_27 ?_
        refine lv_aload_n hx hb d_Md_entry_30 rfl (lv_at hl 0 rfl) ?_
        refine va_get (D := (dC, dI)) (ci := 3) (v := .int (nI n)) (C := R_Md) (T := F_Md) (N := 14) hx hb hts i_Md hown hK hP 0 rfl rfl 12 (by decide) (hts _ m_214) (fun _ h9 => h9) rfl d_Md_entry_31 ?_
        refine lv_if_le (tgt := 46) hx hb d_Md_entry_34 (by decide) (fun c_34 => ?_) (fun c_34 => ?_)
        · rw [rt_n0 hn] at c_34
          exact absurd c_34 c_22
        · rw [rt_n0 hn] at c_34
          refine lv_aload_n hx hb d_Md_entry_37 rfl (lv_at hl 0 rfl) ?_
          refine va_get (D := (dC, dI)) (ci := 3) (v := .int (nI n)) (C := R_Md) (T := F_Md) (N := 14) hx hb hts i_Md hown hK hP 0 rfl rfl 12 (by decide) (hts _ m_214) (fun _ h9 => h9) rfl d_Md_entry_38 ?_
          refine lv_iconst (v := 1) hx hb d_Md_entry_41 (by decide) ?_
          refine lv_isub hx hb d_Md_entry_42 ?_
          refine lv_goto (tgt := 47) hx hb d_Md_entry_43 (by decide) ?_
          refine rt_iald hx hb hK hP 1 0 rfl rfl (n - 1) (rt_pm c_22) (by omega) (by decide) d_Md_entry_47 ?_
          refine lv_icmp_gt (tgt := 53) hx hb d_Md_entry_48 (by decide) (fun c_48 => ?_) (fun c_48 => ?_)
          · refine lv_aload_n hx hb d_Md_entry_53 rfl (lv_at hl 0 rfl) ?_
            refine va_get (D := (dC, dI)) (ci := 3) (v := .ref h1) (C := R_Md) (T := F_Md) (N := 14) hx hb hts i_Md hown hK hP 0 rfl rfl 10 (by decide) (hts _ m_212) (fun _ h9 => h9) rfl d_Md_entry_54 ?_
            refine lv_aload_n hx hb d_Md_entry_57 rfl (lv_at hl 0 rfl) ?_
            refine va_get (D := (dC, dI)) (ci := 3) (v := .int (nI n)) (C := R_Md) (T := F_Md) (N := 14) hx hb hts i_Md hown hK hP 0 rfl rfl 12 (by decide) (hts _ m_214) (fun _ h9 => h9) rfl d_Md_entry_58 ?_
            refine lv_iload_n hx hb d_Md_entry_61 rfl (lv_at hl 1 rfl) ?_
            refine rt_iast hx hb hK hP hD hS 1 0 rfl rfl n rfl (by omega) (by decide) d_Md_entry_62 (fun H locs hP hD hS => ?_)
            have hP : va_P (dC, dI) classes [(h0, .inr (3, [.int 0, .int rt, .int ct, .int pd, .int cg, .int pn, .int mk, .int sr, .int sv, .int tk, .ref h1, .ref h2, .int (nI n), .int (nI c)])), (h1, .inl (cC, 32, .inl (upd f n a))), (h2, .inl (cV, 32, .inl g))] H := hP
            have hD : va_D A [(h0, .inr (3, [.int 0, .int rt, .int ct, .int pd, .int cg, .int pn, .int mk, .int sr, .int sv, .int tk, .ref h1, .ref h2, .int (nI n), .int (nI c)])), (h1, .inl (cC, 32, .inl (upd f n a))), (h2, .inl (cV, 32, .inl g))] := hD
            refine lv_aload_n hx hb d_Md_entry_63 rfl (lv_at hl 0 rfl) ?_
            refine va_get (D := (dC, dI)) (ci := 3) (v := .ref h2) (C := R_Md) (T := F_Md) (N := 14) hx hb hts i_Md hown hK hP 0 rfl rfl 11 (by decide) (hts _ m_213) (fun _ h9 => h9) rfl d_Md_entry_64 ?_
            refine lv_aload_n hx hb d_Md_entry_67 rfl (lv_at hl 0 rfl) ?_
            refine va_get (D := (dC, dI)) (ci := 3) (v := .int (nI n)) (C := R_Md) (T := F_Md) (N := 14) hx hb hts i_Md hown hK hP 0 rfl rfl 12 (by decide) (hts _ m_214) (fun _ h9 => h9) rfl d_Md_entry_68 ?_
            refine lv_iload_n hx hb d_Md_entry_71 rfl (lv_at hl 2 rfl) ?_
            refine rt_iast hx hb hK hP hD hS 2 1 rfl rfl n rfl (by omega) (by decide) d_Md_entry_72 (fun H locs hP hD hS => ?_)
            have hP : va_P (dC, dI) classes [(h0, .inr (3, [.int 0, .int rt, .int ct, .int pd, .int cg, .int pn, .int mk, .int sr, .int sv, .int tk, .ref h1, .ref h2, .int (nI n), .int (nI c)])), (h1, .inl (cC, 32, .inl (upd f n a))), (h2, .inl (cV, 32, .inl (upd g n b)))] H := hP
            have hD : va_D A [(h0, .inr (3, [.int 0, .int rt, .int ct, .int pd, .int cg, .int pn, .int mk, .int sr, .int sv, .int tk, .ref h1, .ref h2, .int (nI n), .int (nI c)])), (h1, .inl (cC, 32, .inl (upd f n a))), (h2, .inl (cV, 32, .inl (upd g n b)))] := hD
            refine lv_aload_n hx hb d_Md_entry_73 rfl (lv_at hl 0 rfl) ?_
            refine lv_dup hx hb d_Md_entry_74 rfl ?_
            refine va_get (D := (dC, dI)) (ci := 3) (v := .int (nI n)) (C := R_Md) (T := F_Md) (N := 14) hx hb hts i_Md hown hK hP 0 rfl rfl 12 (by decide) (hts _ m_214) (fun _ h9 => h9) rfl d_Md_entry_75 ?_
            refine lv_iconst (v := 1) hx hb d_Md_entry_78 (by decide) ?_
            refine lv_iadd hx hb d_Md_entry_79 ?_
            refine rt_topi (nI (n + 1)) (nI_1 n) ?_
            refine va_put (D := (dC, dI)) (ci := 3) (v := .int (nI (n + 1))) (ty := .int) (C := R_Md) (T := F_Md) (N := 14) hx hb hts i_Md t_Md t_Md_ok n_Md hown hK hP hD hS 0 rfl rfl 12 (by decide) (hts _ m_214) (fun _ h9 => h9) rfl (by decide +kernel) rfl rfl (Nat.le_of_ble_eq_true rfl) d_Md_entry_80 (fun H locs hP hD hS => ?_)
            have hP : va_P (dC, dI) classes [(h0, .inr (3, [.int 0, .int rt, .int ct, .int pd, .int cg, .int pn, .int mk, .int sr, .int sv, .int tk, .ref h1, .ref h2, .int (nI (n + 1)), .int (nI c)])), (h1, .inl (cC, 32, .inl (upd f n a))), (h2, .inl (cV, 32, .inl (upd g n b)))] H := hP
            have hD : va_D A [(h0, .inr (3, [.int 0, .int rt, .int ct, .int pd, .int cg, .int pn, .int mk, .int sr, .int sv, .int tk, .ref h1, .ref h2, .int (nI (n + 1)), .int (nI c)])), (h1, .inl (cC, 32, .inl (upd f n a))), (h2, .inl (cV, 32, .inl (upd g n b)))] := hD
            refine lv_aload_n hx hb d_Md_entry_83 rfl (lv_at hl 0 rfl) ?_
            have hok : rt_ok f n a = true := by simp [rt_ok, c_6, c_15, c_22, c_34, c_48]
            obtain ⟨c1, hc1, hcc⟩ := rt_cut_in hs hc hok
            refine rt_gv (wr := []) (rt_runV (rest := []) ⟨hx, hb, hml, hown, hts⟩ (c_Md_goOn l dC dI h0 h1 h2 cC cV H.size rt ct pd cg pn mk sr sv tk (n + 1) c (upd f n a) (upd g n b) c1 (by omega) hcc hc1) (rt_gV m_249 m_251 m_5 m_13 m_252) hd_Md_goOn ⟨Nat.le_of_ble_eq_true rfl, Nat.le_of_ble_eq_true rfl, rfl, rfl⟩ hP hK hD hN [0, 1, 2] [0, 1] (by decide) rfl rfl rfl rfl rfl hl.1 rfl (Nat.le_of_ble_eq_true rfl) d_Md_entry_84 ⟨Nat.le_of_ble_eq_true rfl, Nat.le_of_ble_eq_true rfl⟩) hP hD hS hA [0, 1, 2] [] rfl rfl (by decide) (by decide) (fun c_84 H locs hw_84 hP hD hS _ => ?_)
            try dsimp only at hw_84
            have w0_84 := hw_84
            obtain rfl := w0_84.symm
            have hP : va_P (dC, dI) classes [(h0, .inr (3, [.int 0, .int rt, .int ct, .int pd, .int cg, .int pn, .int mk, .int sr, .int sv, .int tk, .ref h1, .ref h2, .int (nI (n + 1)), .int (nI c1)])), (h1, .inl (cC, 32, .inl (upd f n a))), (h2, .inl (cV, 32, .inl (upd g n b)))] H := hP
            have hD : va_D A [(h0, .inr (3, [.int 0, .int rt, .int ct, .int pd, .int cg, .int pn, .int mk, .int sr, .int sv, .int tk, .ref h1, .ref h2, .int (nI (n + 1)), .int (nI c1)])), (h1, .inl (cC, 32, .inl (upd f n a))), (h2, .inl (cV, 32, .inl (upd g n b)))] := hD
            refine lv_iconst (v := 1) hx hb d_Md_entry_87 (by decide) ?_
            refine rt_zret hx hb hr hlocks rfl ((n + 1), upd f n a, upd g n b, c1) ?_ hP hK hD hS d_Md_entry_88
            exact ⟨by rw [rt_er, if_pos hok], by rw [rt_en, if_pos hok], by rw [rt_ef, if_pos hok], by rw [rt_eg, if_pos hok], hc1⟩
          · refine lv_iconst (v := 0) hx hb d_Md_entry_51 (by decide) ?_
            refine rt_zret hx hb hr hlocks rfl (n, f, g, c) ?_ hP hK hD hS d_Md_entry_52
            try dsimp only
            exact by have hok : ¬ rt_ok f n a = true := (by simp [rt_ok, c_6, c_15, c_22, c_48]); exact ⟨by rw [rt_er, if_neg hok], by rw [rt_en, if_neg hok], by rw [rt_ef, if_neg hok], by rw [rt_eg, if_neg hok], hc⟩
end
section
theorem rt_low (x : Int32) : x.toInt64 &&& 4294967295 = lN x.toBitVec.toNat := by
  apply Int64.toBitVec_inj.mp
  apply BitVec.eq_of_toNat_eq
  have hl : x.toBitVec.toNat < 2 ^ 32 := x.toBitVec.isLt
  have e1 : (lN x.toBitVec.toNat).toBitVec.toNat = x.toBitVec.toNat := by
    show (BitVec.ofNat 64 x.toBitVec.toNat).toNat = _
    rw [BitVec.toNat_ofNat, Nat.mod_eq_of_lt (by omega)]
  rw [e1, Int64.toBitVec_and, BitVec.toNat_and, show (4294967295 : Int64).toBitVec.toNat = 2 ^ 32 - 1 by decide, Nat.and_two_pow_sub_one_eq_mod, Int32.toBitVec_toInt64, BitVec.toNat_signExtend]
  rw [BitVec.toNat_setWidth]
  split <;> omega
theorem rt_ofbv (x : Int32) : nI x.toBitVec.toNat = x := by
  apply Int32.toBitVec_inj.mp
  apply BitVec.eq_of_toNat_eq
  exact pk_tn x.toBitVec.isLt
theorem rt_nI_inj {a b : Nat} (ha : a < 2 ^ 32) (hb : b < 2 ^ 32) (h : nI a = nI b) : a = b := by
  have := congrArg (fun z : Int32 => z.toBitVec.toNat) h
  simp only [pk_tn ha, pk_tn hb] at this
  exact this
theorem rt_addeq {ct pd y : Int32} : ct + y = pd ↔ y = pd - ct := by
  constructor
  · intro h
    rw [← h, Int32.add_comm, Int32.add_sub_cancel]
  · intro h
    rw [h, Int32.add_comm, Int32.sub_add_cancel]
/-- the way to the period, as a plain number -/
theorem rt_way (pd ct : Int32) : ∃ w : Nat, rt_wy pd ct = lN w ∧ 1 ≤ w ∧ w ≤ 4294967296 ∧ ∀ d : Nat, 1 ≤ d → d < 4294967296 → (ct + nI d = pd ↔ d = w) := by
  have hl : (pd - ct).toBitVec.toNat < 2 ^ 32 := (pd - ct).toBitVec.isLt
  have hD : nI (pd - ct).toBitVec.toNat = pd - ct := rt_ofbv _
  unfold rt_wy
  rw [rt_low]
  generalize (pd - ct).toBitVec.toNat = D at hl hD ⊢
  have key : ∀ d : Nat, d < 4294967296 → (ct + nI d = pd ↔ d = D) := by
    intro d hd
    rw [rt_addeq, ← hD]
    exact ⟨fun h => rt_nI_inj (by omega) hl h, fun h => by rw [h]⟩
  by_cases h0 : lN D = 0
  · rw [if_pos h0]
    have hD0 : D = 0 := (pk_lEQ (a := D) (b := 0) (by omega) (by decide)).mp h0
    refine ⟨4294967296, rfl, by decide, Nat.le_refl _, fun d h1 h2 => ?_⟩
    rw [key d h2]
    omega
  · rw [if_neg h0]
    have hD0 : ¬ D = 0 := fun q => h0 (by rw [q]; rfl)
    exact ⟨D, rfl, by omega, by omega, fun d h1 h2 => key d h2⟩
theorem rt_bd {rt a : Int32} (h1 : ¬ a < 1) (h2 : ¬ 20000 < a) : rt ≤ 2147483647 - a ↔ rt.toInt64 + a.toInt64 ≤ 2147483647 := by
  rw [Int32.lt_iff_toInt_lt] at h1 h2
  have e1 : (1 : Int32).toInt = 1 := rfl
  have e2 : (20000 : Int32).toInt = 20000 := rfl
  rw [e1] at h1
  rw [e2] at h2
  have b1 := Int32.le_toInt rt
  have b2 := Int32.toInt_lt rt
  rw [Int32.le_iff_toInt_le, Int64.le_iff_toInt_le, Int32.toInt_sub, Int64.toInt_add, Int32.toInt_toInt64, Int32.toInt_toInt64, show (2147483647 : Int32).toInt = 2147483647 from rfl, show (2147483647 : Int64).toInt = 2147483647 from rfl]
  rw [Int.bmod_eq_of_le (by omega) (by omega), Int.bmod_eq_of_le (by omega) (by omega)]
  omega
theorem rt_cut_go {f : Nat → Int32} {n : Nat} {y : Int32} (hs : rt_so f n) : ∀ m : Nat, ∀ c : Nat, n - c ≤ m → c ≤ n → (∀ k, k < c → f k ≤ y) → ∃ c1, rt_cut f n y c1 ∧ c ≤ c1 := by
  intro m
  induction m with
  | zero => intro c h1 h2 h3; exact ⟨c, ⟨h2, h3, fun k h4 h5 => by omega⟩, Nat.le_refl _⟩
  | succ m ih =>
    intro c h1 h2 h3
    by_cases hq : c < n ∧ f c ≤ y
    · obtain ⟨c1, g1, g2⟩ := ih (c + 1) (by omega) (by omega) (fun k hk => by
        by_cases hkc : k = c
        · rw [hkc]; exact hq.2
        · exact h3 k (by omega))
      exact ⟨c1, g1, by omega⟩
    · refine ⟨c, ⟨h2, h3, fun k h4 h5 => ?_⟩, Nat.le_refl _⟩
      have hcy : y < f c := Decidable.byContradiction fun q => hq ⟨by omega, rt_nlt.mp q⟩
      by_cases hkc : k = c
      · rw [hkc]; exact hcy
      · exact rt_lt_t hcy (hs c k (by omega) h5)
theorem rt_cut_up {f : Nat → Int32} {n c : Nat} {x y : Int32} (hs : rt_so f n) (hc : rt_cut f n x c) (hxy : x ≤ y) : ∃ c1, rt_cut f n y c1 ∧ c ≤ c1 := by
  refine rt_cut_go hs (n - c) c (Nat.le_refl _) hc.1 (fun k hk => ?_)
  have := hc.2.1 k hk
  rw [Int32.le_iff_toInt_le] at *
  omega
theorem rt_cut_ex {f : Nat → Int32} {n : Nat} (hs : rt_so f n) (y : Int32) : ∃ c1, rt_cut f n y c1 := by
  obtain ⟨c1, h, -⟩ := rt_cut_go (y := y) hs n 0 (by omega) (Nat.zero_le _) (fun k hk => by omega)
  exact ⟨c1, h⟩
theorem rt_nx_ex {g : Nat → Int32} {mk : Int32} {n c : Nat} (hc : c ≤ n) : ∃ k, rt_nx g mk n c k := by
  have key : ∀ m : Nat, ∀ c : Nat, n - c ≤ m → c ≤ n → ∃ k, rt_nx g mk n c k := by
    intro m
    induction m with
    | zero => intro c h1 h2; exact ⟨c, Nat.le_refl _, h2, fun j h3 h4 => by omega, fun h => by omega⟩
    | succ m ih =>
      intro c h1 h2
      by_cases hq : c < n ∧ g c &&& mk = 0
      · obtain ⟨k, g1, g2, g3, g4⟩ := ih (c + 1) (by omega) (by omega)
        refine ⟨k, by omega, g2, fun j h3 h4 => ?_, g4⟩
        by_cases hj : j = c
        · rw [hj]; exact hq.2
        · exact g3 j (by omega) h4
      · exact ⟨c, Nat.le_refl _, h2, fun j h3 h4 => by omega, fun h q => hq ⟨h, q⟩⟩
  exact key (n - c) c (Nat.le_refl _) hc
end
section
theorem rt_posN {x : Int32} (h : 0 ≤ x) : ∃ j : Nat, j < 2 ^ 31 ∧ x = nI j := nI_of (by rw [rt_nlt]; exact h)
theorem rt_pdN {pd : Int32} (hp : 0 ≤ pd ∧ pd < 268435456) : ∃ q : Nat, q < 268435456 ∧ pd = nI q := by
  obtain ⟨j, hj, rfl⟩ := rt_posN hp.1
  refine ⟨j, ?_, rfl⟩
  have h2 := hp.2
  rw [show (268435456 : Int32) = nI 268435456 from rfl, nI_ltI hj (by decide)] at h2
  exact h2
/-- the leap of d steps, in plain numbers -/
theorem rt_lcN {pd ct cg : Int32} {q w d : Nat} (hq : q < 268435456) (hpd : pd = nI q) (hw : rt_wy pd ct = lN w) (hw2 : w ≤ 4294967296) (hd : d ≤ 20000) (hcg : ¬ cg = 0) : rt_lc pd ct cg (lN d) = if w ≤ d then nI (if q = 0 then d - w else (d - w) % q) else ct + nI d := by
  unfold rt_lc
  rw [if_neg hcg, hw]
  by_cases h1 : w ≤ d
  · rw [if_pos h1, if_pos ((pk_lLE (by omega) (by omega)).mpr h1), lN_sub h1]
    by_cases h2 : q = 0
    · rw [if_pos h2, if_pos (by rw [hpd, h2]; rfl), lN_i]
    · rw [if_neg h2, if_neg (by rw [hpd]; exact nI_ne0 (by omega) (by omega)), hpd, nI_l (by omega), pk_lRem (by omega) (by omega) (by omega), lN_i]
  · rw [if_neg h1, if_neg (fun h => h1 ((pk_lLE (by omega) (by omega)).mp h)), lN_i]
theorem rt_lpN {pd ct cg pn : Int32} {w d : Nat} (hw : rt_wy pd ct = lN w) (hw2 : w ≤ 4294967296) (hd : d ≤ 20000) (hcg : ¬ cg = 0) : rt_lp pd ct cg pn (lN d) = if w ≤ d then 1 else pn := by
  unfold rt_lp
  rw [if_neg hcg, hw]
  by_cases h1 : w ≤ d
  · rw [if_pos h1, if_pos ((pk_lLE (by omega) (by omega)).mpr h1)]
  · rw [if_neg h1, if_neg (fun h => h1 ((pk_lLE (by omega) (by omega)).mp h))]
theorem rt_modS {x q : Nat} (hq : 0 < q) (h : x % q + 1 = q) : (x + 1) % q = 0 := by
  rw [Nat.add_mod]
  by_cases h1 : q = 1
  · subst h1; exact Nat.mod_one _
  · rw [Nat.mod_eq_of_lt (show 1 < q by omega), h, Nat.mod_self]
theorem rt_modT {x q : Nat} (hq : 0 < q) (h : ¬ x % q + 1 = q) : (x + 1) % q = x % q + 1 := by
  have h2 := Nat.mod_lt x hq
  rw [Nat.add_mod]
  by_cases h1 : q = 1
  · subst h1; omega
  · rw [Nat.mod_eq_of_lt (show 1 < q by omega), Nat.mod_eq_of_lt (by omega)]
theorem rt_tstep {pd ct cg pn : Int32} (hp : 0 ≤ pd ∧ pd < 268435456) {d : Nat} (hd : d + 1 ≤ 20000) :
    rt_1c pd (rt_lc pd ct cg (lN d)) cg = rt_lc pd ct cg (lN (d + 1)) ∧ rt_1p pd (rt_lc pd ct cg (lN d)) cg (rt_lp pd ct cg pn (lN d)) = rt_lp pd ct cg pn (lN (d + 1)) := by
  by_cases hcg : cg = 0
  · simp only [rt_1c, rt_1p, rt_lc, rt_lp, if_pos hcg, and_self]
  · obtain ⟨q, hq, hpd⟩ := rt_pdN hp
    obtain ⟨w, hw, hw1, hw2, hw3⟩ := rt_way pd ct
    rw [rt_lcN hq hpd hw hw2 (by omega) hcg, rt_lcN hq hpd hw hw2 (by omega) hcg, rt_lpN hw hw2 (by omega) hcg, rt_lpN hw hw2 (by omega) hcg]
    unfold rt_1c rt_1p
    rw [if_neg hcg, if_neg hcg]
    by_cases h1 : w ≤ d
    · rw [if_pos h1, if_pos h1, if_pos (show w ≤ d + 1 by omega), if_pos (show w ≤ d + 1 by omega)]
      by_cases h2 : q = 0
      · rw [if_pos h2, if_pos h2, if_neg (by rw [hpd, nI_1, nI_eq (by omega) (by omega)]; omega), if_neg (by rw [hpd, nI_1, nI_eq (by omega) (by omega)]; omega), nI_1, show d - w + 1 = d + 1 - w by omega]
        exact ⟨rfl, rfl⟩
      · rw [if_neg h2, if_neg h2]
        have hm := Nat.mod_lt (d - w) (show 0 < q by omega)
        rw [show d + 1 - w = (d - w) + 1 by omega, hpd, nI_1]
        by_cases h3 : (d - w) % q + 1 = q
        · rw [if_pos (by rw [h3]), if_pos (by rw [h3]), rt_modS (by omega) h3]
          exact ⟨rfl, rfl⟩
        · have h4 : ¬ nI ((d - w) % q + 1) = nI q := by rw [nI_eq (by omega) (by omega)]; exact h3
          rw [if_neg h4, if_neg h4, rt_modT (by omega) h3]
          exact ⟨rfl, rfl⟩
    · rw [if_neg h1, if_neg h1]
      have e : ct + nI d + 1 = ct + nI (d + 1) := by rw [Int32.add_assoc, nI_1]
      rw [e]
      by_cases h2 : d + 1 = w
      · have h3 : ct + nI (d + 1) = pd := (hw3 (d + 1) (by omega) (by omega)).mpr h2
        rw [if_pos h3, if_pos h3, if_pos (show w ≤ d + 1 by omega), if_pos (show w ≤ d + 1 by omega), show d + 1 - w = 0 by omega, Nat.zero_mod]
        refine ⟨?_, rfl⟩
        by_cases hq0 : q = 0
        · rw [if_pos hq0]; rfl
        · rw [if_neg hq0]; rfl
      · have h3 : ¬ ct + nI (d + 1) = pd := fun h => h2 ((hw3 (d + 1) (by omega) (by omega)).mp h)
        rw [if_neg h3, if_neg h3, if_neg (show ¬ w ≤ d + 1 by omega), if_neg (show ¬ w ≤ d + 1 by omega)]
        exact ⟨rfl, rfl⟩
theorem rt_lp0 {pd ct cg pn : Int32} : rt_lc pd ct cg (lN 0) = ct ∧ rt_lp pd ct cg pn (lN 0) = pn := by
  by_cases hcg : cg = 0
  · simp only [rt_lc, rt_lp, if_pos hcg, and_self]
  · obtain ⟨w, hw, hw1, hw2, -⟩ := rt_way pd ct
    have h1 : ¬ rt_wy pd ct ≤ lN 0 := fun h => by
      rw [hw, pk_lLE (by omega) (by decide)] at h
      omega
    rw [rt_lc, rt_lp, if_neg hcg, if_neg hcg, if_neg h1, if_neg h1]
    refine ⟨?_, rfl⟩
    rw [lN_i]
    show ct + nI 0 = ct
    rw [nI_0, Int32.add_zero]
/-- when the timer is due -/
theorem rt_wtN (sr pd ct cg pn : Int32) : ∃ T : Nat, rt_wt sr pd ct cg pn = lN T ∧ T < 2 ^ 63 ∧ (T ≤ 4294967296 ∨ T = 9223372036854775807) ∧ ∀ d : Nat, d ≤ 20000 → ((¬ sr &&& 2 = 0 ∧ ¬ rt_lp pd ct cg pn (lN d) = 0) ↔ T ≤ d) := by
  unfold rt_wt rt_tu
  by_cases h1 : sr &&& 2 = 0
  · rw [if_pos h1]
    exact ⟨9223372036854775807, rfl, by decide, Or.inr rfl, fun d hd => ⟨fun h => absurd h1 h.1, fun h => by omega⟩⟩
  · rw [if_neg h1]
    by_cases h2 : pn = 0
    · rw [if_pos h2]
      by_cases h3 : cg = 0
      · rw [if_pos h3]
        refine ⟨9223372036854775807, rfl, by decide, Or.inr rfl, fun d hd => ⟨fun h => ?_, fun h => by omega⟩⟩
        exact absurd (by rw [rt_lp, if_pos h3]; exact h2) h.2
      · rw [if_neg h3]
        obtain ⟨w, hw, hw1, hw2, -⟩ := rt_way pd ct
        refine ⟨w, hw, by omega, Or.inl hw2, fun d hd => ?_⟩
        rw [rt_lpN hw hw2 hd h3]
        by_cases h4 : w ≤ d
        · rw [if_pos h4]; exact ⟨fun _ => h4, fun _ => ⟨h1, by decide⟩⟩
        · rw [if_neg h4]; exact ⟨fun h => absurd h2 h.2, fun h => absurd h h4⟩
    · rw [if_neg h2]
      refine ⟨0, rfl, by decide, Or.inl (by decide), fun d hd => ⟨fun _ => Nat.zero_le _, fun _ => ⟨h1, ?_⟩⟩⟩
      unfold rt_lp
      by_cases h3 : cg = 0
      · rw [if_pos h3]; exact h2
      · rw [if_neg h3]
        by_cases h4 : rt_wy pd ct ≤ lN d
        · rw [if_pos h4]; decide
        · rw [if_neg h4]; exact h2
theorem rt_cutN {f : Nat → Int32} {n c c' : Nat} {x y : Int32} (h : rt_cut f n x c) (h' : rt_cut f n y c') (hxy : x ≤ y) : c ≤ c' := by
  rcases Nat.lt_or_ge c' c with q | q
  · have h1 := h.2.1 c' q
    have h2 := h'.2.2 c' (Nat.le_refl _) (Nat.lt_of_lt_of_le q h.1)
    rw [Int32.le_iff_toInt_le] at *
    rw [Int32.lt_iff_toInt_lt] at h2
    omega
  · exact q
/-- what is on behind c and ahead of k has no line of the mask -/
theorem rt_lv0 {g : Nat → Int32} {mk : Int32} {n c k c' : Nat} (hk : rt_nx g mk n c k) (h0 : rt_lv g c &&& mk = 0) (h1 : c ≤ c') (h2 : c' ≤ k) : rt_lv g c' &&& mk = 0 := by
  by_cases hc : c' = c
  · rw [hc]; exact h0
  · rw [rt_lv, if_neg (by omega)]
    exact hk.2.2.1 (c' - 1) (by omega) (by omega)
/-- when a line is due -/
theorem rt_wlN {sr mk : Int32} {r n : Nat} {f g : Nat → Int32} {c k : Nat} (hr : r < 2 ^ 31) (hs : rt_so f n) (hc : rt_cut f n (nI r) c) (hk : rt_nx g mk n c k) :
    ∃ T : Nat, rt_wl sr (nI r) mk n f g c k = lN T ∧ T < 2 ^ 63 ∧ (r + T < 2 ^ 31 ∨ T = 9223372036854775807) ∧ ∀ d : Nat, r + d < 2 ^ 31 → ∀ c' : Nat, rt_cut f n (nI (r + d)) c' → (d < T → ¬ (¬ sr &&& 4 = 0 ∧ ¬ rt_lv g c' &&& mk = 0)) ∧ (d = T → (¬ sr &&& 4 = 0 ∧ ¬ rt_lv g c' &&& mk = 0)) := by
  unfold rt_wl rt_ru
  by_cases h1 : sr &&& 4 = 0
  · rw [if_pos h1]
    exact ⟨9223372036854775807, rfl, by decide, Or.inr rfl, fun d hd c' hc' => ⟨fun _ h => h.1 h1, fun h => by omega⟩⟩
  · rw [if_neg h1]
    by_cases h2 : rt_lv g c &&& mk = 0
    · rw [if_pos h2]
      by_cases h3 : k < n
      · rw [if_pos h3]
        have hfk := hc.2.2 k hk.1 h3
        obtain ⟨F, hF, hfF⟩ : ∃ F : Nat, F < 2 ^ 31 ∧ f k = nI F := rt_posN (by
          have := nI_pos' hr
          rw [Int32.le_iff_toInt_le] at *
          rw [Int32.lt_iff_toInt_lt] at hfk
          omega)
        rw [hfF, nI_ltI hr hF] at hfk
        refine ⟨F - r, ?_, by omega, Or.inl (by omega), fun d hd c' hc' => ⟨fun h => ?_, fun h => ⟨h1, ?_⟩⟩⟩
        · rw [hfF, pk_sub (by omega), nI_l (by omega)]
        · intro hb
          refine hb.2 (rt_lv0 hk h2 (rt_cutN hc hc' ((nI_leI hr hd).mpr (by omega))) ?_)
          rcases Nat.lt_or_ge k c' with q | q
          · have h5 := hc'.2.1 k q
            rw [hfF, nI_leI hF hd] at h5
            omega
          · exact q
        · have hk1 : k < c' := by
            rcases Nat.lt_or_ge k c' with q | q
            · exact q
            · have h5 := hc'.2.2 k q h3
              rw [hfF, nI_ltI hd hF] at h5
              omega
          have hk2 : c' = k + 1 := by
            rcases Nat.lt_or_ge (k + 1) c' with q | q
            · have h5 := hc'.2.1 (k + 1) q
              have h6 := hs k (k + 1) (by omega) (Nat.lt_of_lt_of_le q hc'.1)
              have h7 : nI (r + d) = f k := by rw [hfF, show r + d = F by omega]
              rw [h7] at h5
              exact absurd h6 (rt_nlt.mpr h5)
            · omega
          rw [hk2, rt_lv, if_neg (by omega), Nat.add_sub_cancel]
          exact hk.2.2.2 h3
      · rw [if_neg h3]
        refine ⟨9223372036854775807, rfl, by decide, Or.inr rfl, fun d hd c' hc' => ⟨fun _ hb => ?_, fun h => by omega⟩⟩
        have := hc'.1
        have := hk.2.1
        exact hb.2 (rt_lv0 hk h2 (rt_cutN hc hc' ((nI_leI hr hd).mpr (by omega))) (by omega))
    · rw [if_neg h2]
      refine ⟨0, rfl, by decide, Or.inl (by omega), fun d hd c' hc' => ⟨fun h => by omega, fun h => ⟨h1, ?_⟩⟩⟩
      subst h
      have e1 := rt_cutN hc hc' ((nI_leI hr hd).mpr (by omega))
      have e2 := rt_cutN hc' hc ((nI_leI hd hr).mpr (by omega))
      rw [show c' = c by omega]
      exact h2
theorem rt_mnN {a b : Nat} (ha : a < 2 ^ 63) (hb : b < 2 ^ 63) : rt_mn (lN a) (lN b) = lN (min a b) := by
  unfold rt_mn
  by_cases h : b < a
  · rw [if_pos ((pk_lLT hb ha).mpr h), Nat.min_eq_right (by omega)]
  · rw [if_neg (fun q => h ((pk_lLT hb ha).mp q)), Nat.min_eq_left (by omega)]
theorem rt_dm0 {sr pn mk lv : Int32} : rt_dm sr pn mk lv = 0 ↔ (¬ (¬ sr &&& 2 = 0 ∧ ¬ pn = 0) ∧ ¬ (¬ sr &&& 4 = 0 ∧ ¬ lv &&& mk = 0)) := by
  unfold rt_dm
  by_cases h1 : ¬ sr &&& 2 = 0 ∧ ¬ pn = 0
  · rw [if_pos h1]; exact ⟨fun h => absurd h (by decide), fun h => absurd h1 h.1⟩
  · rw [if_neg h1]
    by_cases h2 : ¬ sr &&& 4 = 0 ∧ ¬ lv &&& mk = 0
    · rw [if_pos h2]; exact ⟨fun h => absurd h (by decide), fun h => absurd h2 h.2⟩
    · rw [if_neg h2]; exact ⟨fun _ => ⟨h1, h2⟩, fun _ => rfl⟩
/-- the plan of a call of steps: how many steps it does, and why no more -/
theorem rt_plan {sr pd ct cg pn rt mk a : Int32} {n : Nat} {f g : Nat → Int32} {c k : Nat} (hI : rt_I rt pd cg pn n f c) (hk : rt_nx g mk n c k) (h1 : ¬ a < 1) (h2 : ¬ 20000 < a) (h3 : rt.toInt64 + a.toInt64 ≤ 2147483647) :
    ∃ r N K : Nat, rt = nI r ∧ a = nI N ∧ r + N < 2 ^ 31 ∧ N ≤ 20000 ∧ K ≤ N ∧ rt_cn a (rt_w sr pd ct cg pn rt mk n f g c k) = nI K ∧
      (∀ d, d < K → ∀ c', rt_cut f n (nI (r + d)) c' → rt_dm sr (rt_lp pd ct cg pn (lN d)) mk (rt_lv g c') = 0) ∧
      (K < N → ∀ c', rt_cut f n (nI (r + K)) c' → ¬ rt_dm sr (rt_lp pd ct cg pn (lN K)) mk (rt_lv g c') = 0) := by
  obtain ⟨hr0, hp, -, -, hn, hs, hc⟩ := hI
  obtain ⟨r, hr, rfl⟩ := rt_posN hr0
  obtain ⟨N, hN, rfl⟩ : ∃ N : Nat, N < 2 ^ 31 ∧ a = nI N := rt_posN (by
    rw [Int32.lt_iff_toInt_lt, show (1 : Int32).toInt = 1 from rfl] at h1
    rw [Int32.le_iff_toInt_le, show (0 : Int32).toInt = 0 from rfl]
    omega)
  rw [show (20000 : Int32) = nI 20000 from rfl, nI_ltI (by decide) hN] at h2
  rw [show (1 : Int32) = nI 1 from rfl, nI_ltI hN (by decide)] at h1
  rw [nI_l hr, nI_l hN, lN_add, show (2147483647 : Int64) = lN 2147483647 from rfl, pk_lLE (by omega) (by decide)] at h3
  obtain ⟨T, hT, hT63, -, hTd⟩ := rt_wtN sr pd ct cg pn
  obtain ⟨U, hU, hU63, -, hUd⟩ := rt_wlN (sr := sr) hr hs hc hk
  refine ⟨r, N, min N (min T U), rfl, rfl, by omega, by omega, Nat.min_le_left _ _, ?_, fun d hd c' hc' => ?_, fun hKN c' hc' => ?_⟩
  · unfold rt_cn rt_w
    rw [hT, hU, nI_l hN, rt_mnN hT63 hU63, rt_mnN (by omega) (by omega), lN_i]
  · rw [rt_dm0]
    refine ⟨fun h => ?_, (hUd d (by omega) c' hc').1 (by omega)⟩
    have := (hTd d (by omega)).mp h
    omega
  · rw [rt_dm0]
    intro h
    rcases Nat.lt_or_ge U T with q | q
    · exact h.2 ((hUd _ (by omega) c' hc').2 (by omega))
    · exact h.1 ((hTd _ (by omega)).mpr (by omega))
end
section
theorem rt_addZ {ct pd : Int32} {d : Nat} {m : Int} (h : ct.toInt + d = pd.toInt + (4294967296 : Nat) * m) : ct + nI d = pd := by
  have b1 := Int32.le_toInt pd
  have b2 := Int32.toInt_lt pd
  have e : ct + nI d = Int32.ofInt (ct.toInt + d) := by
    rw [Int32.ofInt_add, Int32.ofInt_toInt, Int32.ofInt_eq_ofNat]
    rfl
  rw [e, Int32.ofInt_eq_iff_bmod_eq_toInt, h, show (2 : Nat) ^ 32 = 4294967296 from rfl, Int.add_mul_bmod_self_left]
  exact Int.bmod_eq_of_le (by omega) (by omega)
theorem rt_pdZ {pd : Int32} (hp : 0 ≤ pd ∧ pd < 268435456) : 0 ≤ pd.toInt ∧ pd.toInt < 268435456 := by
  have h1 := hp.1
  have h2 := hp.2
  rw [Int32.le_iff_toInt_le] at h1
  rw [Int32.lt_iff_toInt_lt] at h2
  exact ⟨h1, h2⟩
theorem rt_sub64 (a b : Int32) : (a.toInt64 - b.toInt64).toInt = a.toInt - b.toInt := by
  have := Int32.le_toInt a
  have := Int32.toInt_lt a
  have := Int32.le_toInt b
  have := Int32.toInt_lt b
  rw [Int64.toInt_sub, Int32.toInt_toInt64, Int32.toInt_toInt64, Int.bmod_eq_of_le (by omega) (by omega)]
theorem rt_wyP {pd ct : Int32} (hp : 0 ≤ pd ∧ pd < 268435456) (h : ¬ pd.toInt64 - ct.toInt64 ≤ 0) : pd.toInt64 - ct.toInt64 = rt_wy pd ct := by
  obtain ⟨w, hw, hw1, hw2, hw3⟩ := rt_way pd ct
  have hz := rt_pdZ hp
  have := Int32.le_toInt ct
  have := Int32.toInt_lt ct
  have ez := rt_sub64 pd ct
  rw [Int64.le_iff_toInt_le, ez, show (0 : Int64).toInt = 0 from rfl] at h
  have e : (pd.toInt - ct.toInt).toNat = w := (hw3 _ (by omega) (by omega)).mp (rt_addZ (m := 0) (by omega))
  apply Int64.toInt_inj.mp
  rw [ez, hw, pk_lT (by omega)]
  omega
theorem rt_wyN {pd ct : Int32} (hp : 0 ≤ pd ∧ pd < 268435456) (h : pd.toInt64 - ct.toInt64 ≤ 0) : pd.toInt64 - ct.toInt64 + 4294967296 = rt_wy pd ct := by
  obtain ⟨w, hw, hw1, hw2, hw3⟩ := rt_way pd ct
  have hz := rt_pdZ hp
  have b1 := Int32.le_toInt ct
  have b2 := Int32.toInt_lt ct
  have ez := rt_sub64 pd ct
  rw [Int64.le_iff_toInt_le, ez, show (0 : Int64).toInt = 0 from rfl] at h
  have e : (pd.toInt - ct.toInt + 4294967296).toNat = w := by
    by_cases h0 : pd.toInt = ct.toInt
    · have hpc : pd = ct := Int32.toInt_inj.mp h0
      have hw4 : ¬ w < 4294967296 := fun q => by
        have h5 := (hw3 w hw1 q).mpr rfl
        rw [rt_addeq, hpc, Int32.sub_self] at h5
        have := rt_nI_inj (a := w) (b := 0) (by omega) (by decide) h5
        omega
      omega
    · exact (hw3 _ (by omega) (by omega)).mp (rt_addZ (m := 1) (by omega))
  apply Int64.toInt_inj.mp
  rw [Int64.toInt_add, ez, hw, pk_lT (by omega), show (4294967296 : Int64).toInt = 4294967296 from rfl, Int.bmod_eq_of_le (by omega) (by omega)]
  omega
def rt_ba (sr pd ct cg : Int32) : Int64 := if sr &&& 2 = 0 then 1099511627776 else if cg = 0 then 1099511627776 else rt_wy pd ct
def rt_ls (B : Int64) (rt : Int32) (n : Nat) (f : Nat → Int32) (k : Nat) : Int64 := if k < n then rt_mn B ((f k).toInt64 - rt.toInt64) else B
theorem rt_jlt {j c : Nat} (hj : j ≤ 32) (hc : c ≤ 32) : nI j - 1 < nI c ↔ j ≤ c := by
  cases j with
  | zero =>
    refine ⟨fun _ => Nat.zero_le _, fun _ => ?_⟩
    rw [Int32.lt_iff_toInt_lt, nI_toInt (by omega), show (nI 0 - 1).toInt = -1 by decide]
    omega
  | succ j =>
    rw [nI_pred, nI_ltI (by omega) (by omega)]
    omega
theorem rt_nxS {g : Nat → Int32} {mk : Int32} {n j k : Nat} (h : rt_nx g mk n (j + 1) k) (hg : g j &&& mk = 0) : rt_nx g mk n j k := by
  obtain ⟨h1, h2, h3, h4⟩ := h
  refine ⟨by omega, h2, fun i hi1 hi2 => ?_, h4⟩
  by_cases hij : i = j
  · rw [hij]; exact hg
  · exact h3 i (by omega) hi2
theorem rt_nxH {g : Nat → Int32} {mk : Int32} {n j : Nat} (hj : j < n) (hg : ¬ g j &&& mk = 0) : rt_nx g mk n j j := ⟨Nat.le_refl _, by omega, fun i h1 h2 => by omega, fun _ => hg⟩
theorem rt_nxU {g : Nat → Int32} {mk : Int32} {n c k k2 : Nat} (h : rt_nx g mk n c k) (h' : rt_nx g mk n c k2) : k = k2 := by
  obtain ⟨a1, a2, a3, a4⟩ := h
  obtain ⟨b1, b2, b3, b4⟩ := h'
  rcases Nat.lt_trichotomy k k2 with q | q | q
  · exact absurd (b3 k a1 q) (a4 (by omega))
  · exact q
  · exact absurd (a3 k2 b1 q) (b4 (by omega))
theorem rt_lsA {B : Int64} {rt mk : Int32} {n j k : Nat} {f g : Nat → Int32} (hs : rt_so f n) (hj : j < n) (hk : rt_nx g mk n (j + 1) k) (h : rt_ls B rt n f k ≤ (f j).toInt64 - rt.toInt64) : rt_ls B rt n f k = rt_ls B rt n f j := by
  unfold rt_ls rt_mn at *
  rw [if_pos hj]
  by_cases h1 : k < n
  · rw [if_pos h1] at h ⊢
    have h2 := hs j k hk.1 h1
    rw [Int32.lt_iff_toInt_lt] at h2
    by_cases h3 : (f k).toInt64 - rt.toInt64 < B
    · rw [if_pos h3, Int64.le_iff_toInt_le, rt_sub64, rt_sub64] at h
      omega
    · rw [if_neg h3] at h ⊢
      rw [if_neg]
      rw [Int64.le_iff_toInt_le] at h
      rw [Int64.lt_iff_toInt_lt]
      omega
  · rw [if_neg h1] at h ⊢
    rw [if_neg]
    rw [Int64.le_iff_toInt_le] at h
    rw [Int64.lt_iff_toInt_lt]
    omega
theorem rt_lsB {B : Int64} {rt : Int32} {n j k : Nat} {f : Nat → Int32} (hj : j < n) (h : ¬ rt_ls B rt n f k ≤ (f j).toInt64 - rt.toInt64) : (f j).toInt64 - rt.toInt64 = rt_ls B rt n f j := by
  unfold rt_ls rt_mn at *
  rw [if_pos hj]
  rw [if_pos]
  rw [Int64.le_iff_toInt_le] at h
  rw [Int64.lt_iff_toInt_lt]
  by_cases h1 : k < n
  · rw [if_pos h1] at h
    by_cases h3 : (f k).toInt64 - rt.toInt64 < B
    · rw [if_pos h3] at h
      rw [Int64.lt_iff_toInt_lt] at h3
      omega
    · rw [if_neg h3] at h
      omega
  · rw [if_neg h1] at h
    omega
theorem rt_dmle {sr pn mk lv : Int32} : rt_dm sr pn mk lv ≤ 0 ↔ rt_dm sr pn mk lv = 0 := by
  unfold rt_dm
  by_cases h1 : ¬ sr &&& 2 = 0 ∧ ¬ pn = 0
  · rw [if_pos h1]; decide
  · rw [if_neg h1]
    by_cases h2 : ¬ sr &&& 4 = 0 ∧ ¬ lv &&& mk = 0
    · rw [if_pos h2]; decide
    · rw [if_neg h2]; decide
theorem rt_unL {r v : Nat} (hr : r < 2 ^ 31) (hv : v < 2 ^ 63) : rt_un (nI r) (lN v) = if r + v ≤ 2147483647 then nI v else -1 := by
  unfold rt_un
  rw [nI_l hr, show (2147483647 : Int64) = lN 2147483647 from rfl, lN_sub (by omega), lN_i]
  have e : lN v ≤ lN (2147483647 - r) ↔ v ≤ 2147483647 - r := pk_lLE hv (by omega)
  by_cases h : r + v ≤ 2147483647
  · rw [if_pos h, if_pos (e.mpr (by omega))]
  · rw [if_neg h, if_neg (fun q => h (by have := e.mp q; omega))]
theorem rt_unM {r v : Nat} (hr : r < 2 ^ 31) (hv : v < 2 ^ 62) : (nI r).toInt64 + lN v ≤ 2147483647 ↔ r + v ≤ 2147483647 := by
  rw [nI_l hr, lN_add, show (2147483647 : Int64) = lN 2147483647 from rfl, pk_lLE (by omega) (by decide)]
theorem rt_baN {sr pd ct cg pn : Int32} (h : ¬ (¬ sr &&& 2 = 0 ∧ ¬ pn = 0)) : ∃ t b : Nat, rt_wt sr pd ct cg pn = lN t ∧ rt_ba sr pd ct cg = lN b ∧ ((t = 9223372036854775807 ∧ b = 1099511627776) ∨ (t = b ∧ b ≤ 4294967296)) := by
  unfold rt_wt rt_ba rt_tu
  by_cases h1 : sr &&& 2 = 0
  · rw [if_pos h1, if_pos h1]; exact ⟨9223372036854775807, 1099511627776, rfl, rfl, Or.inl ⟨rfl, rfl⟩⟩
  · have h2 : pn = 0 := Decidable.byContradiction fun q => h ⟨h1, q⟩
    rw [if_neg h1, if_neg h1, if_pos h2]
    by_cases h3 : cg = 0
    · rw [if_pos h3, if_pos h3]; exact ⟨9223372036854775807, 1099511627776, rfl, rfl, Or.inl ⟨rfl, rfl⟩⟩
    · rw [if_neg h3, if_neg h3]
      obtain ⟨w, hw, hw1, hw2, -⟩ := rt_way pd ct
      exact ⟨w, w, hw, hw, Or.inr ⟨rfl, hw2⟩⟩
theorem rt_lsN {sr mk : Int32} {r n b : Nat} {f g : Nat → Int32} {c k kf : Nat} (hr : r < 2 ^ 31) (hb : b < 2 ^ 63) (hc : rt_cut f n (nI r) c) (hk : rt_nx g mk n c k) (h : ¬ (¬ sr &&& 4 = 0 ∧ ¬ rt_lv g c &&& mk = 0)) (hkf : kf = if sr &&& 4 = 0 then n else k) :
    ∃ u v : Nat, rt_wl sr (nI r) mk n f g c k = lN u ∧ rt_ls (lN b) (nI r) n f kf = lN v ∧ ((u = 9223372036854775807 ∧ v = b) ∨ (r + u < 2 ^ 31 ∧ v = min b u)) := by
  unfold rt_wl rt_ru rt_ls
  by_cases h1 : sr &&& 4 = 0
  · rw [if_pos h1] at hkf ⊢
    rw [hkf, if_neg (Nat.lt_irrefl _)]
    exact ⟨9223372036854775807, b, rfl, rfl, Or.inl ⟨rfl, rfl⟩⟩
  · rw [if_neg h1] at hkf ⊢
    have h2 : rt_lv g c &&& mk = 0 := Decidable.byContradiction fun q => h ⟨h1, q⟩
    rw [if_pos h2, hkf]
    by_cases h3 : k < n
    · rw [if_pos h3, if_pos h3]
      have hfk := hc.2.2 k hk.1 h3
      obtain ⟨F, hF, hfF⟩ : ∃ F : Nat, F < 2 ^ 31 ∧ f k = nI F := rt_posN (by
        have := nI_pos' hr
        rw [Int32.le_iff_toInt_le] at *
        rw [Int32.lt_iff_toInt_lt] at hfk
        omega)
      rw [hfF, nI_ltI hr hF] at hfk
      rw [hfF, pk_sub (by omega), nI_l (by omega), nI_l (by omega), nI_l (by omega), lN_sub (by omega), rt_mnN hb (by omega)]
      exact ⟨F - r, min b (F - r), rfl, rfl, Or.inr ⟨by omega, rfl⟩⟩
    · rw [if_neg h3, if_neg h3]
      exact ⟨9223372036854775807, b, rfl, rfl, Or.inl ⟨rfl, rfl⟩⟩
/-- until: what the reference counts is what the timer counts -/
theorem rt_unN {sr pd ct cg pn rt mk : Int32} {n : Nat} {f g : Nat → Int32} {c k kf : Nat} (hI : rt_I rt pd cg pn n f c) (hk : rt_nx g mk n c k) (hd : rt_dm sr pn mk (rt_lv g c) ≤ 0) (hkf : kf = if sr &&& 4 = 0 then n else k) :
    (rt.toInt64 + rt_ls (rt_ba sr pd ct cg) rt n f kf ≤ 2147483647 → (rt_ls (rt_ba sr pd ct cg) rt n f kf).toInt32 = rt_un rt (rt_w sr pd ct cg pn rt mk n f g c k)) ∧
    (¬ rt.toInt64 + rt_ls (rt_ba sr pd ct cg) rt n f kf ≤ 2147483647 → -1 = rt_un rt (rt_w sr pd ct cg pn rt mk n f g c k)) := by
  obtain ⟨hr0, hp, -, -, hn, hs, hc⟩ := hI
  obtain ⟨r, hr, rfl⟩ := rt_posN hr0
  rw [rt_dmle, rt_dm0] at hd
  obtain ⟨t, b, h1, h2, h3⟩ := rt_baN (pd := pd) (ct := ct) (cg := cg) hd.1
  obtain ⟨u, v, g1, g2, g3⟩ := rt_lsN (b := b) (sr := sr) hr (by omega) hc hk hd.2 hkf
  rw [h2, g2, rt_unM hr (by omega)]
  unfold rt_w
  rw [h1, g1, rt_mnN (by omega) (by omega), rt_unL hr (by omega), lN_i]
  constructor
  · intro hle
    rw [show min t u = v by omega, if_pos hle]
  · intro hle
    rw [if_neg (by omega)]
theorem rt_un0 {sr pd ct cg pn rt mk : Int32} {n : Nat} {f g : Nat → Int32} {c k : Nat} (hI : rt_I rt pd cg pn n f c) (hk : rt_nx g mk n c k) (hd : ¬ rt_dm sr pn mk (rt_lv g c) ≤ 0) : 0 = rt_un rt (rt_w sr pd ct cg pn rt mk n f g c k) := by
  obtain ⟨hr0, hp, -, -, hn, hs, hc⟩ := hI
  obtain ⟨r, hr, rfl⟩ := rt_posN hr0
  obtain ⟨T, hT, hT63, -, hTd⟩ := rt_wtN sr pd ct cg pn
  obtain ⟨U, hU, hU63, -, hUd⟩ := rt_wlN (sr := sr) hr hs hc hk
  have e := rt_lp0 (pd := pd) (ct := ct) (cg := cg) (pn := pn)
  have hT0 := hTd 0 (by decide)
  rw [e.2] at hT0
  have hU0 := hUd 0 (by omega) c (by rw [Nat.add_zero]; exact hc)
  rw [rt_dmle, rt_dm0] at hd
  have key : min T U = 0 := by
    by_cases q : T = 0
    · omega
    · by_cases q2 : U = 0
      · omega
      · exact absurd ⟨fun h => q (by have := hT0.mp h; omega), hU0.1 (by omega)⟩ hd
  unfold rt_w
  rw [hT, hU, rt_mnN hT63 hU63, key, rt_unL hr (by decide), if_pos (by omega)]
  exact nI_0.symm
theorem rt_dec (x : Int32) : x + Int32.ofInt (-1) = x - 1 := by
  have e : Int32.ofInt (-1) = (-1 : Int32) := by decide
  rw [Int32.sub_eq_add_neg, e]
end
section
set_option maxHeartbeats 4000000 in
set_option maxRecDepth 100000 in
theorem c_Md_steps (l : Launch) (dC : Nat → ClassId) (dI : Nat → Nat → Nat) (h0 h1 h2 : Nat) (cC cV : ClassId) (sz : Nat) (rt ct pd cg pn mk sr sv tk : Int32) (n c : Nat) (f g : Nat → Int32) (a : Int32) (k : Nat) (hI : rt_I rt pd cg pn n f c) (hk : rt_nx g mk n c k) :
    rt_Ci l y_Md_steps b_Md_steps 3 (some .int) ({ frames := 2, cells := 0, slots := 0, locals := 40 } : Room) dC dI [(cC, .int), (cV, .int)] [(h0, .inr (3, [.int 0, .int rt, .int ct, .int pd, .int cg, .int pn, .int mk, .int sr, .int sv, .int tk, .ref h1, .ref h2, .int (nI n), .int (nI c)])), (h1, .inl (cC, 32, .inl f)), (h2, .inl (cV, 32, .inl g))] sz [.ref h0, .int a] (fun (r : Int32) (u : Int32 × Int32 × Int32 × Nat) => r = rt_s0 rt a (rt_w sr pd ct cg pn rt mk n f g c k) ∧ u.1 = rt_s1 rt a (rt_w sr pd ct cg pn rt mk n f g c k) ∧ u.2.1 = rt_s2 rt a pd ct cg (rt_w sr pd ct cg pn rt mk n f g c k) ∧ u.2.2.1 = rt_s3 rt a pd ct cg pn (rt_w sr pd ct cg pn rt mk n f g c k) ∧ rt_cut f n u.1 u.2.2.2) (fun _ => [(cC, .int), (cV, .int)]) (fun u => [(h0, .inr (3, [.int 0, .int u.1, .int u.2.1, .int pd, .int cg, .int u.2.2.1, .int mk, .int sr, .int sv, .int tk, .ref h1, .ref h2, .int (nI n), .int (nI u.2.2.2)])), (h1, .inl (cC, 32, .inl f)), (h2, .inl (cV, 32, .inl g))]) 0 0 := by
  refine rt_meti (by decide) (Nat.le_of_ble_eq_true rfl) ?_
  intro p e s m below meth c_ A ls hx hb hr hml hown hts hlocks hin hP hK hD hN hA hS hl
  have hown : s.vm.findClass R_Md = some m.cls := hown
  have hl : lv_has ls 3 [(0, .ref h0), (1, .int a)] := hl
  obtain ⟨hI0, hIp, hIg, hIn, hn, hs, hc⟩ := id hI
  refine lv_aload_n hx hb d_Md_steps_0 rfl (lv_at hl 0 rfl) ?_
  refine lv_iconst (v := 0) hx hb d_Md_steps_1 (by decide) ?_
  refine va_put (D := (dC, dI)) (ci := 3) (v := .int 0) (ty := .int) (C := R_Md) (T := F_Md) (N := 14) hx hb hts i_Md t_Md t_Md_ok n_Md hown hK hP hD hS 0 rfl rfl 0 (by decide) (hts _ m_202) (fun _ h9 => h9) rfl (by decide +kernel) rfl rfl (Nat.le_of_ble_eq_true rfl) d_Md_steps_2 (fun H locs hP hD hS => ?_)
  have hP : va_P (dC, dI) classes [(h0, .inr (3, [.int 0, .int rt, .int ct, .int pd, .int cg, .int pn, .int mk, .int sr, .int sv, .int tk, .ref h1, .ref h2, .int (nI n), .int (nI c)])), (h1, .inl (cC, 32, .inl f)), (h2, .inl (cV, 32, .inl g))] H := hP
  have hD : va_D A [(h0, .inr (3, [.int 0, .int rt, .int ct, .int pd, .int cg, .int pn, .int mk, .int sr, .int sv, .int tk, .ref h1, .ref h2, .int (nI n), .int (nI c)])), (h1, .inl (cC, 32, .inl f)), (h2, .inl (cV, 32, .inl g))] := hD
  refine lv_iload_n hx hb d_Md_steps_5 rfl (lv_at hl 1 rfl) ?_
  refine lv_iconst (v := 1) hx hb d_Md_steps_6 (by decide) ?_
  refine lv_icmp_lt (tgt := 28) hx hb d_Md_steps_7 (by decide) (fun c_7 => ?_) (fun c_7 => ?_)
  · refine lv_iconst (v := (-1)) hx hb d_Md_steps_28 (by decide) ?_
    refine rt_iret hx hb hr hlocks (rt, ct, pn, c) ?_ hP hK hD hS d_Md_steps_29
    try dsimp only
    exact by have hbd : rt_bad rt a = true := (by simp [rt_bad, c_7]); exact ⟨by rw [rt_s0, if_pos hbd], by rw [rt_s1, if_pos hbd], by rw [rt_s2, if_pos hbd], by rw [rt_s3, if_pos hbd], hc⟩
  · refine lv_iload_n hx hb d_Md_steps_10 rfl (lv_at hl 1 rfl) ?_
    refine lv_sipush (v := 20000) hx hb d_Md_steps_11 (by decide) ?_
    refine lv_icmp_gt (tgt := 28) hx hb d_Md_steps_14 (by decide) (fun c_14 => ?_) (fun c_14 => ?_)
    · refine lv_iconst (v := (-1)) hx hb d_Md_steps_28 (by decide) ?_
      refine rt_iret hx hb hr hlocks (rt, ct, pn, c) ?_ hP hK hD hS d_Md_steps_29
      try dsimp only
      exact by have hbd : rt_bad rt a = true := (by simp [rt_bad, c_7, c_14]); exact ⟨by rw [rt_s0, if_pos hbd], by rw [rt_s1, if_pos hbd], by rw [rt_s2, if_pos hbd], by rw [rt_s3, if_pos hbd], hc⟩
    · refine lv_aload_n hx hb d_Md_steps_17 rfl (lv_at hl 0 rfl) ?_
      refine va_get (D := (dC, dI)) (ci := 3) (v := .int rt) (C := R_Md) (T := F_Md) (N := 14) hx hb hts i_Md hown hK hP 0 rfl rfl 1 (by decide) (hts _ m_203) (fun _ h9 => h9) rfl d_Md_steps_18 ?_
      refine lv_ldc hx hb hown (hts _ m_257) d_Md_steps_21 ?_
      refine lv_iload_n hx hb d_Md_steps_23 rfl (lv_at hl 1 rfl) ?_
      refine lv_isub hx hb d_Md_steps_24 ?_
      refine lv_icmp_le (tgt := 30) hx hb d_Md_steps_25 (by decide) (fun c_25 => ?_) (fun c_25 => ?_)
      · rw [rt_bd c_7 c_14] at c_25
        refine lv_iconst (v := 0) hx hb d_Md_steps_30 (by decide) ?_
        refine rt_topi (nI 0) (nI_0.symm) ?_
        refine lv_istore_n (lv' := [(2, .int (nI 0)), (0, .ref h0), (1, .int a)]) hx hb d_Md_steps_31 rfl hl (by decide) rfl (fun ls hl => ?_)
        obtain ⟨r, N, K, hrt, hNa, hrN, hN2, hKN, hcn, hfree, hstop⟩ := rt_plan (sr := sr) (ct := ct) (mk := mk) (g := g) hI hk c_7 c_14 c_25
        have e0 : nI (r + 0) = rt := by rw [Nat.add_zero]; exact hrt.symm
        obtain ⟨l0, p0⟩ := rt_lp0 (pd := pd) (ct := ct) (cg := cg) (pn := pn)
        have hc0 : rt_cut f n (nI (r + 0)) c := by rw [e0]; exact hc
        have hP0 : va_P (dC, dI) classes [(h0, .inr (3, [.int 0, .int (nI (r + 0)), .int (rt_lc pd ct cg (lN 0)), .int pd, .int cg, .int (rt_lp pd ct cg pn (lN 0)), .int mk, .int sr, .int sv, .int tk, .ref h1, .ref h2, .int (nI n), .int (nI c)])), (h1, .inl (cC, 32, .inl f)), (h2, .inl (cV, 32, .inl g))] H := by rw [e0, l0, p0]; exact hP
        have hD0 : va_D A [(h0, .inr (3, [.int 0, .int (nI (r + 0)), .int (rt_lc pd ct cg (lN 0)), .int pd, .int cg, .int (rt_lp pd ct cg pn (lN 0)), .int mk, .int sr, .int sv, .int tk, .ref h1, .ref h2, .int (nI n), .int (nI c)])), (h1, .inl (cC, 32, .inl f)), (h2, .inl (cV, 32, .inl g))] := by rw [e0, l0, p0]; exact hD
        refine rt_loop (σ := Nat × Nat) (fun z => K - z.1) (fun z H' locs' ls' => (z.1 ≤ K ∧ rt_cut f n (nI (r + z.1)) z.2) ∧ va_P (dC, dI) classes [(h0, .inr (3, [.int 0, .int (nI (r + z.1)), .int (rt_lc pd ct cg (lN z.1)), .int pd, .int cg, .int (rt_lp pd ct cg pn (lN z.1)), .int mk, .int sr, .int sv, .int tk, .ref h1, .ref h2, .int (nI n), .int (nI z.2)])), (h1, .inl (cC, 32, .inl f)), (h2, .inl (cV, 32, .inl g))] H' ∧ va_D A [(h0, .inr (3, [.int 0, .int (nI (r + z.1)), .int (rt_lc pd ct cg (lN z.1)), .int pd, .int cg, .int (rt_lp pd ct cg pn (lN z.1)), .int mk, .int sr, .int sv, .int tk, .ref h1, .ref h2, .int (nI n), .int (nI z.2)])), (h1, .inl (cC, 32, .inl f)), (h2, .inl (cV, 32, .inl g))] ∧ va_S A s.heap H' locs' ∧ lv_has ls' 3 [(0, .ref h0), (1, .int a), (2, .int (nI z.1))]) ?_ (0, c) _ _ _ ⟨⟨Nat.zero_le _, hc0⟩, hP0, hD0, hS, lv_sub hl [1, 2, 0] rfl⟩
        clear hP0 hD0 hP hD hS hl
        intro z H locs ls hz ih
        obtain ⟨d, c2⟩ := z
        obtain ⟨⟨z1, hc2⟩, hP, hD, hS, hl⟩ := hz
        dsimp only at z1 hc2
        have hcn2 := hc2.1
        have hP : va_P (dC, dI) classes [(h0, .inr (3, [.int 0, .int (nI (r + d)), .int (rt_lc pd ct cg (lN d)), .int pd, .int cg, .int (rt_lp pd ct cg pn (lN d)), .int mk, .int sr, .int sv, .int tk, .ref h1, .ref h2, .int (nI n), .int (nI c2)])), (h1, .inl (cC, 32, .inl f)), (h2, .inl (cV, 32, .inl g))] H := hP
        have hD : va_D A [(h0, .inr (3, [.int 0, .int (nI (r + d)), .int (rt_lc pd ct cg (lN d)), .int pd, .int cg, .int (rt_lp pd ct cg pn (lN d)), .int mk, .int sr, .int sv, .int tk, .ref h1, .ref h2, .int (nI n), .int (nI c2)])), (h1, .inl (cC, 32, .inl f)), (h2, .inl (cV, 32, .inl g))] := hD
        have hl : lv_has ls 3 [(0, .ref h0), (1, .int a), (2, .int (nI d))] := hl
        refine lv_iload_n hx hb d_Md_steps_32 rfl (lv_at hl 2 rfl) ?_
        refine lv_iload_n hx hb d_Md_steps_33 rfl (lv_at hl 1 rfl) ?_
        refine lv_icmp_ge (tgt := 54) hx hb d_Md_steps_34 (by decide) (fun c_34 => ?_) (fun c_34 => ?_)
        · rw [hNa, nI_leI (by omega) (by omega)] at c_34
          have hdK : d = K := by omega
          refine lv_iload_n hx hb d_Md_steps_54 rfl (lv_at hl 2 rfl) ?_
          refine rt_iret hx hb hr hlocks ((nI (r + d)), (rt_lc pd ct cg (lN d)), (rt_lp pd ct cg pn (lN d)), c2) ?_ hP hK hD hS d_Md_steps_55
          try dsimp only
          exact by have hbd : ¬ rt_bad rt a = true := (by simp [rt_bad, c_7, c_14, c_25]); subst hdK; exact ⟨by rw [rt_s0, if_neg hbd, hcn], by rw [rt_s1, if_neg hbd, hcn, hrt, nI_add], by rw [rt_s2, if_neg hbd, hcn, nI_l (by omega)], by rw [rt_s3, if_neg hbd, hcn, nI_l (by omega)], hc2⟩
        · rw [hNa, nI_leI (by omega) (by omega)] at c_34
          refine lv_aload_n hx hb d_Md_steps_37 rfl (lv_at hl 0 rfl) ?_
          refine rt_gi (wr := []) (rt_runV (rest := []) ⟨hx, hb, hml, hown, hts⟩ (c_Md_due l dC dI h0 h1 h2 cC cV H.size (nI (r + d)) (rt_lc pd ct cg (lN d)) pd cg (rt_lp pd ct cg pn (lN d)) mk sr sv tk n c2 f g hn hcn2) (rt_gV m_258 m_260 m_6 m_13 m_261) hd_Md_due ⟨Nat.le_of_ble_eq_true rfl, Nat.le_of_ble_eq_true rfl, rfl, rfl⟩ hP hK hD hN [0, 1, 2] [0, 1] (by decide) rfl rfl rfl rfl rfl hl.1 rfl (Nat.le_of_ble_eq_true rfl) d_Md_steps_38 ⟨Nat.le_of_ble_eq_true rfl, Nat.le_of_ble_eq_true rfl⟩) hP hD hS hA [0, 1, 2] [] rfl rfl (by decide) (by decide) (fun r_38 u_38 H locs hw_38 hP hD hS _ => ?_)
          try dsimp only at hw_38
          have w0_38 := hw_38
          obtain rfl := w0_38.symm
          have hP : va_P (dC, dI) classes [(h0, .inr (3, [.int 0, .int (nI (r + d)), .int (rt_lc pd ct cg (lN d)), .int pd, .int cg, .int (rt_lp pd ct cg pn (lN d)), .int mk, .int sr, .int sv, .int tk, .ref h1, .ref h2, .int (nI n), .int (nI c2)])), (h1, .inl (cC, 32, .inl f)), (h2, .inl (cV, 32, .inl g))] H := hP
          have hD : va_D A [(h0, .inr (3, [.int 0, .int (nI (r + d)), .int (rt_lc pd ct cg (lN d)), .int pd, .int cg, .int (rt_lp pd ct cg pn (lN d)), .int mk, .int sr, .int sv, .int tk, .ref h1, .ref h2, .int (nI n), .int (nI c2)])), (h1, .inl (cC, 32, .inl f)), (h2, .inl (cV, 32, .inl g))] := hD
          refine lv_if_ne (tgt := 54) hx hb d_Md_steps_41 (by decide) (fun c_41 => ?_) (fun c_41 => ?_)
          · have hdK : d = K := by
              rcases Nat.lt_or_ge d K with q | q
              · exact absurd (hfree d q c2 hc2) c_41
              · omega
            refine lv_iload_n hx hb d_Md_steps_54 rfl (lv_at hl 2 rfl) ?_
            refine rt_iret hx hb hr hlocks ((nI (r + d)), (rt_lc pd ct cg (lN d)), (rt_lp pd ct cg pn (lN d)), c2) ?_ hP hK hD hS d_Md_steps_55
            try dsimp only
            exact by have hbd : ¬ rt_bad rt a = true := (by simp [rt_bad, c_7, c_14, c_25]); subst hdK; exact ⟨by rw [rt_s0, if_neg hbd, hcn], by rw [rt_s1, if_neg hbd, hcn, hrt, nI_add], by rw [rt_s2, if_neg hbd, hcn, nI_l (by omega)], by rw [rt_s3, if_neg hbd, hcn, nI_l (by omega)], hc2⟩
          · have hdK : d < K := by
              rcases Nat.lt_or_ge d K with q | q
              · exact q
              · obtain rfl : d = K := by omega
                exact absurd c_41 (hstop (by omega) c2 hc2)
            refine lv_aload_n hx hb d_Md_steps_44 rfl (lv_at hl 0 rfl) ?_
            obtain ⟨c1, hc1, hcc⟩ := rt_cut_up (y := nI (r + d) + 1) hs hc2 (by rw [nI_1, nI_leI (by omega) (by omega)]; omega)
            refine rt_gv (wr := []) (rt_runV (rest := []) ⟨hx, hb, hml, hown, hts⟩ (c_Md_step l dC dI h0 h1 h2 cC cV H.size (nI (r + d)) (rt_lc pd ct cg (lN d)) pd cg (rt_lp pd ct cg pn (lN d)) mk sr sv tk n c2 f g c1 hn hcc hc1) (rt_gV m_266 m_268 m_8 m_13 m_269) hd_Md_step ⟨Nat.le_of_ble_eq_true rfl, Nat.le_of_ble_eq_true rfl, rfl, rfl⟩ hP hK hD hN [0, 1, 2] [0, 1] (by decide) rfl rfl rfl rfl rfl hl.1 rfl (Nat.le_of_ble_eq_true rfl) d_Md_steps_45 ⟨Nat.le_of_ble_eq_true rfl, Nat.le_of_ble_eq_true rfl⟩) hP hD hS hA [0, 1, 2] [] rfl rfl (by decide) (by decide) (fun u_45 H locs hw_45 hP hD hS _ => ?_)
            obtain ⟨rt_45, ct_45, pn_45, c_45⟩ := u_45
            try dsimp only at hw_45
            obtain ⟨w0_45, w1_45, w2_45, w3_45⟩ := hw_45
            obtain rfl := w0_45.symm
            obtain rfl := w1_45.symm
            obtain rfl := w2_45.symm
            obtain rfl := w3_45.symm
            have hP : va_P (dC, dI) classes [(h0, .inr (3, [.int 0, .int ((nI (r + d)) + 1), .int (rt_1c pd (rt_lc pd ct cg (lN d)) cg), .int pd, .int cg, .int (rt_1p pd (rt_lc pd ct cg (lN d)) cg (rt_lp pd ct cg pn (lN d))), .int mk, .int sr, .int sv, .int tk, .ref h1, .ref h2, .int (nI n), .int (nI c1)])), (h1, .inl (cC, 32, .inl f)), (h2, .inl (cV, 32, .inl g))] H := hP
            have hD : va_D A [(h0, .inr (3, [.int 0, .int ((nI (r + d)) + 1), .int (rt_1c pd (rt_lc pd ct cg (lN d)) cg), .int pd, .int cg, .int (rt_1p pd (rt_lc pd ct cg (lN d)) cg (rt_lp pd ct cg pn (lN d))), .int mk, .int sr, .int sv, .int tk, .ref h1, .ref h2, .int (nI n), .int (nI c1)])), (h1, .inl (cC, 32, .inl f)), (h2, .inl (cV, 32, .inl g))] := hD
            refine lv_iinc (v := (nI (d + 1))) (lv' := [(2, .int (nI (d + 1))), (0, .ref h0), (1, .int a)]) hx hb d_Md_steps_48 hl (k := 2) rfl (nI_1 d) (by decide) rfl (fun ls hl => ?_)
            refine lv_goto (tgt := 32) hx hb d_Md_steps_51 (by decide) ?_
            have e1 : nI (r + (d + 1)) = nI (r + d) + 1 := (nI_1 (r + d)).symm
            obtain ⟨e2, e3⟩ := rt_tstep (ct := ct) (cg := cg) (pn := pn) hIp (d := d) (by omega)
            have hc3 : rt_cut f n (nI (r + (d + 1))) c1 := by rw [e1]; exact hc1
            have hP3 : va_P (dC, dI) classes [(h0, .inr (3, [.int 0, .int (nI (r + (d + 1))), .int (rt_lc pd ct cg (lN (d + 1))), .int pd, .int cg, .int (rt_lp pd ct cg pn (lN (d + 1))), .int mk, .int sr, .int sv, .int tk, .ref h1, .ref h2, .int (nI n), .int (nI c1)])), (h1, .inl (cC, 32, .inl f)), (h2, .inl (cV, 32, .inl g))] H := by rw [e1, ← e2, ← e3]; exact hP
            have hD3 : va_D A [(h0, .inr (3, [.int 0, .int (nI (r + (d + 1))), .int (rt_lc pd ct cg (lN (d + 1))), .int pd, .int cg, .int (rt_lp pd ct cg pn (lN (d + 1))), .int mk, .int sr, .int sv, .int tk, .ref h1, .ref h2, .int (nI n), .int (nI c1)])), (h1, .inl (cC, 32, .inl f)), (h2, .inl (cV, 32, .inl g))] := by rw [e1, ← e2, ← e3]; exact hD
            exact ih (d + 1, c1) _ _ _ (by dsimp only; omega) ⟨⟨by dsimp only; omega, hc3⟩, hP3, hD3, hS, lv_sub hl [1, 2, 0] rfl⟩
      · rw [rt_bd c_7 c_14] at c_25
        refine lv_iconst (v := (-1)) hx hb d_Md_steps_28 (by decide) ?_
        refine rt_iret hx hb hr hlocks (rt, ct, pn, c) ?_ hP hK hD hS d_Md_steps_29
        try dsimp only
        exact by have hbd : rt_bad rt a = true := (by simp [rt_bad, c_7, c_14, c_25]); exact ⟨by rw [rt_s0, if_pos hbd], by rw [rt_s1, if_pos hbd], by rw [rt_s2, if_pos hbd], by rw [rt_s3, if_pos hbd], hc⟩
set_option maxHeartbeats 4000000 in
set_option maxRecDepth 100000 in
theorem c_Md_until (l : Launch) (dC : Nat → ClassId) (dI : Nat → Nat → Nat) (h0 h1 h2 : Nat) (cC cV : ClassId) (sz : Nat) (rt ct pd cg pn mk sr sv tk : Int32) (n c : Nat) (f g : Nat → Int32) (k : Nat) (hI : rt_I rt pd cg pn n f c) (hk : rt_nx g mk n c k) :
    rt_Ci l y_Md_until b_Md_until 6 (some .int) ({ frames := 2, cells := 0, slots := 0, locals := 40 } : Room) dC dI [(cC, .int), (cV, .int)] [(h0, .inr (3, [.int 0, .int rt, .int ct, .int pd, .int cg, .int pn, .int mk, .int sr, .int sv, .int tk, .ref h1, .ref h2, .int (nI n), .int (nI c)])), (h1, .inl (cC, 32, .inl f)), (h2, .inl (cV, 32, .inl g))] sz [.ref h0] (fun (r : Int32) (u : Unit) => r = rt_un rt (rt_w sr pd ct cg pn rt mk n f g c k)) (fun _ => [(cC, .int), (cV, .int)]) (fun u => [(h0, .inr (3, [.int 0, .int rt, .int ct, .int pd, .int cg, .int pn, .int mk, .int sr, .int sv, .int tk, .ref h1, .ref h2, .int (nI n), .int (nI c)])), (h1, .inl (cC, 32, .inl f)), (h2, .inl (cV, 32, .inl g))]) 0 0 := by
  refine rt_meti (by decide) (Nat.le_of_ble_eq_true rfl) ?_
  intro p e s m below meth c_ A ls hx hb hr hml hown hts hlocks hin hP hK hD hN hA hS hl
  have hown : s.vm.findClass R_Md = some m.cls := hown
  have hl : lv_has ls 6 [(0, .ref h0)] := hl
  obtain ⟨hI0, hIp, hIg, hIn, hn, hs, hc⟩ := id hI
  refine lv_aload_n hx hb d_Md_until_0 rfl (lv_at hl 0 rfl) ?_
  refine lv_iconst (v := 0) hx hb d_Md_until_1 (by decide) ?_
  refine va_put (D := (dC, dI)) (ci := 3) (v := .int 0) (ty := .int) (C := R_Md) (T := F_Md) (N := 14) hx hb hts i_Md t_Md t_Md_ok n_Md hown hK hP hD hS 0 rfl rfl 0 (by decide) (hts _ m_202) (fun _ h9 => h9) rfl (by decide +kernel) rfl rfl (Nat.le_of_ble_eq_true rfl) d_Md_until_2 (fun H locs hP hD hS => ?_)
  have hP : va_P (dC, dI) classes [(h0, .inr (3, [.int 0, .int rt, .int ct, .int pd, .int cg, .int pn, .int mk, .int sr, .int sv, .int tk, .ref h1, .ref h2, .int (nI n), .int (nI c)])), (h1, .inl (cC, 32, .inl f)), (h2, .inl (cV, 32, .inl g))] H := hP
  have hD : va_D A [(h0, .inr (3, [.int 0, .int rt, .int ct, .int pd, .int cg, .int pn, .int mk, .int sr, .int sv, .int tk, .ref h1, .ref h2, .int (nI n), .int (nI c)])), (h1, .inl (cC, 32, .inl f)), (h2, .inl (cV, 32, .inl g))] := hD
  refine lv_aload_n hx hb d_Md_until_5 rfl (lv_at hl 0 rfl) ?_
  refine rt_gi (wr := []) (rt_runV (rest := []) ⟨hx, hb, hml, hown, hts⟩ (c_Md_due l dC dI h0 h1 h2 cC cV H.size rt ct pd cg pn mk sr sv tk n c f g hn hc.1) (rt_gV m_258 m_260 m_6 m_13 m_261) hd_Md_due ⟨Nat.le_of_ble_eq_true rfl, Nat.le_of_ble_eq_true rfl, rfl, rfl⟩ hP hK hD hN [0, 1, 2] [0, 1] (by decide) rfl rfl rfl rfl rfl hl.1 rfl (Nat.le_of_ble_eq_true rfl) d_Md_until_6 ⟨Nat.le_of_ble_eq_true rfl, Nat.le_of_ble_eq_true rfl⟩) hP hD hS hA [0, 1, 2] [] rfl rfl (by decide) (by decide) (fun r_6 u_6 H locs hw_6 hP hD hS _ => ?_)
  try dsimp only at hw_6
  have w0_6 := hw_6
  obtain rfl := w0_6.symm
  have hP : va_P (dC, dI) classes [(h0, .inr (3, [.int 0, .int rt, .int ct, .int pd, .int cg, .int pn, .int mk, .int sr, .int sv, .int tk, .ref h1, .ref h2, .int (nI n), .int (nI c)])), (h1, .inl (cC, 32, .inl f)), (h2, .inl (cV, 32, .inl g))] H := hP
  have hD : va_D A [(h0, .inr (3, [.int 0, .int rt, .int ct, .int pd, .int cg, .int pn, .int mk, .int sr, .int sv, .int tk, .ref h1, .ref h2, .int (nI n), .int (nI c)])), (h1, .inl (cC, 32, .inl f)), (h2, .inl (cV, 32, .inl g))] := hD
  refine lv_if_le (tgt := 14) hx hb d_Md_until_9 (by decide) (fun c_9 => ?_) (fun c_9 => ?_)
  · refine lv_ldc2 hx hb hown (hts _ m_303) d_Md_until_14 ?_
    refine lv_lstore_n (lv' := [(1, .long 1099511627776), (0, .ref h0)]) hx hb d_Md_until_17 rfl hl (by decide) rfl (fun ls hl => ?_)
    refine lv_aload_n hx hb d_Md_until_18 rfl (lv_at hl 1 rfl) ?_
    refine va_get (D := (dC, dI)) (ci := 3) (v := .int sr) (C := R_Md) (T := F_Md) (N := 14) hx hb hts i_Md hown hK hP 0 rfl rfl 7 (by decide) (hts _ m_209) (fun _ h9 => h9) rfl d_Md_until_19 ?_
    refine lv_iconst (v := 2) hx hb d_Md_until_22 (by decide) ?_
    refine lv_iand hx hb d_Md_until_23 ?_
    refine lv_if_eq (tgt := 62) hx hb d_Md_until_24 (by decide) (fun c_24 => ?_) (fun c_24 => ?_)
    · refine lv_aload_n hx hb d_Md_until_62 rfl (lv_at hl 1 rfl) ?_
      refine va_get (D := (dC, dI)) (ci := 3) (v := .int (nI n)) (C := R_Md) (T := F_Md) (N := 14) hx hb hts i_Md hown hK hP 0 rfl rfl 12 (by decide) (hts _ m_214) (fun _ h9 => h9) rfl d_Md_until_63 ?_
      refine lv_iconst (v := 1) hx hb d_Md_until_66 (by decide) ?_
      refine lv_isub hx hb d_Md_until_67 ?_
      refine lv_istore_n (lv' := [(3, .int ((nI n) - 1)), (1, .long 1099511627776), (0, .ref h0)]) hx hb d_Md_until_68 rfl hl (by decide) rfl (fun ls hl => ?_)
      have hB : rt_ls (rt_ba sr pd ct cg) rt n f n = 1099511627776 := by rw [rt_ls, if_neg (Nat.lt_irrefl _)]; rw [rt_ba, if_pos c_24]
      have hl2 : lv_has ls 6 [(0, .ref h0), (1, .long (rt_ls (rt_ba sr pd ct cg) rt n f n)), (3, .int (nI n - 1))] := by rw [hB]; exact lv_sub hl [2, 1, 0] rfl
      clear hl
      refine rt_loop (σ := Nat × Nat) (fun z => z.1) (fun z H' locs' ls' => ((c ≤ z.1 ∧ z.1 ≤ n) ∧ rt_nx g mk n z.1 z.2 ∧ (sr &&& 4 = 0 → z.2 = n)) ∧ H = H' ∧ locs = locs' ∧ lv_has ls' 6 [(0, .ref h0), (1, .long (rt_ls (rt_ba sr pd ct cg) rt n f z.2)), (3, .int (nI z.1 - 1))]) ?_ (n, n) _ _ _ ⟨⟨⟨hc.1, Nat.le_refl _⟩, ⟨Nat.le_refl _, Nat.le_refl _, fun j h1 h2 => absurd h2 (by dsimp only at h1; omega), fun h => absurd h (Nat.lt_irrefl _)⟩, fun _ => rfl⟩, rfl, rfl, hl2⟩
      intro z H' locs' ls hz ih
      obtain ⟨j, kj⟩ := z
      obtain ⟨⟨⟨z1, z2⟩, z3, z4⟩, rfl, rfl, hl⟩ := hz
      dsimp only at z1 z2 z3 z4
      have hl : lv_has ls 6 [(0, .ref h0), (1, .long (rt_ls (rt_ba sr pd ct cg) rt n f kj)), (3, .int (nI j - 1))] := hl
      refine lv_iload_n hx hb d_Md_until_69 rfl (lv_at hl 2 rfl) ?_
      refine lv_aload_n hx hb d_Md_until_70 rfl (lv_at hl 0 rfl) ?_
      refine va_get (D := (dC, dI)) (ci := 3) (v := .int (nI c)) (C := R_Md) (T := F_Md) (N := 14) hx hb hts i_Md hown hK hP 0 rfl rfl 13 (by decide) (hts _ m_215) (fun _ h9 => h9) rfl d_Md_until_71 ?_
      refine lv_icmp_lt (tgt := 135) hx hb d_Md_until_74 (by decide) (fun c_74 => ?_) (fun c_74 => ?_)
      · rw [rt_jlt (by omega) (by have := hc.1; omega)] at c_74
        have hkf : kj = if sr &&& 4 = 0 then n else k := by
          by_cases h4 : sr &&& 4 = 0
          · rw [if_pos h4]; exact z4 h4
          · rw [if_neg h4]
            obtain rfl : j = c := by omega
            exact rt_nxU z3 hk
        refine lv_aload_n hx hb d_Md_until_135 rfl (lv_at hl 0 rfl) ?_
        refine va_get (D := (dC, dI)) (ci := 3) (v := .int rt) (C := R_Md) (T := F_Md) (N := 14) hx hb hts i_Md hown hK hP 0 rfl rfl 1 (by decide) (hts _ m_203) (fun _ h9 => h9) rfl d_Md_until_136 ?_
        refine lv_i2l (v := rt.toInt64) hx hb d_Md_until_139 rfl ?_
        refine lv_lload_n hx hb d_Md_until_140 rfl (lv_at hl 1 rfl) ?_
        refine lv_ladd hx hb d_Md_until_141 ?_
        refine lv_ldc2 hx hb hown (hts _ m_305) d_Md_until_142 ?_
        refine W.lcmp hx hb d_Md_until_145 ?_
        refine lv_if_le (tgt := 153) hx hb d_Md_until_146 (by decide) (fun c_146 => ?_) (fun c_146 => ?_)
        · rw [lg_cmp_le] at c_146
          refine lv_lload_n hx hb d_Md_until_153 rfl (lv_at hl 1 rfl) ?_
          refine lv_l2i (v := (rt_ls (rt_ba sr pd ct cg) rt n f kj).toInt32) hx hb d_Md_until_154 rfl ?_
          refine rt_iret hx hb hr hlocks () ?_ hP hK hD hS d_Md_until_155
          exact (rt_unN hI hk c_9 hkf).1 c_146
        · rw [lg_cmp_le] at c_146
          refine lv_iconst (v := (-1)) hx hb d_Md_until_149 (by decide) ?_
          refine lv_goto (tgt := 155) hx hb d_Md_until_150 (by decide) ?_
          refine rt_iret hx hb hr hlocks () ?_ hP hK hD hS d_Md_until_155
          exact (rt_unN hI hk c_9 hkf).2 c_146
      · rw [rt_jlt (by omega) (by have := hc.1; omega)] at c_74
        refine lv_aload_n hx hb d_Md_until_77 rfl (lv_at hl 0 rfl) ?_
        refine va_get (D := (dC, dI)) (ci := 3) (v := .int sr) (C := R_Md) (T := F_Md) (N := 14) hx hb hts i_Md hown hK hP 0 rfl rfl 7 (by decide) (hts _ m_209) (fun _ h9 => h9) rfl d_Md_until_78 ?_
        refine lv_iconst (v := 4) hx hb d_Md_until_81 (by decide) ?_
        refine lv_iand hx hb d_Md_until_82 ?_
        refine lv_if_eq (tgt := 135) hx hb d_Md_until_83 (by decide) (fun c_83 => ?_) (fun c_83 => ?_)
        · have hkf : kj = if sr &&& 4 = 0 then n else k := by rw [if_pos c_83]; exact z4 c_83
          refine lv_aload_n hx hb d_Md_until_135 rfl (lv_at hl 0 rfl) ?_
          refine va_get (D := (dC, dI)) (ci := 3) (v := .int rt) (C := R_Md) (T := F_Md) (N := 14) hx hb hts i_Md hown hK hP 0 rfl rfl 1 (by decide) (hts _ m_203) (fun _ h9 => h9) rfl d_Md_until_136 ?_
          refine lv_i2l (v := rt.toInt64) hx hb d_Md_until_139 rfl ?_
          refine lv_lload_n hx hb d_Md_until_140 rfl (lv_at hl 1 rfl) ?_
          refine lv_ladd hx hb d_Md_until_141 ?_
          refine lv_ldc2 hx hb hown (hts _ m_305) d_Md_until_142 ?_
          refine W.lcmp hx hb d_Md_until_145 ?_
          refine lv_if_le (tgt := 153) hx hb d_Md_until_146 (by decide) (fun c_146 => ?_) (fun c_146 => ?_)
          · rw [lg_cmp_le] at c_146
            refine lv_lload_n hx hb d_Md_until_153 rfl (lv_at hl 1 rfl) ?_
            refine lv_l2i (v := (rt_ls (rt_ba sr pd ct cg) rt n f kj).toInt32) hx hb d_Md_until_154 rfl ?_
            refine rt_iret hx hb hr hlocks () ?_ hP hK hD hS d_Md_until_155
            exact (rt_unN hI hk c_9 hkf).1 c_146
          · rw [lg_cmp_le] at c_146
            refine lv_iconst (v := (-1)) hx hb d_Md_until_149 (by decide) ?_
            refine lv_goto (tgt := 155) hx hb d_Md_until_150 (by decide) ?_
            refine rt_iret hx hb hr hlocks () ?_ hP hK hD hS d_Md_until_155
            exact (rt_unN hI hk c_9 hkf).2 c_146
        · have ej : nI j - 1 = nI (j - 1) := rt_pm (by omega)
          refine lv_aload_n hx hb d_Md_until_86 rfl (lv_at hl 0 rfl) ?_
          refine va_get (D := (dC, dI)) (ci := 3) (v := .ref h1) (C := R_Md) (T := F_Md) (N := 14) hx hb hts i_Md hown hK hP 0 rfl rfl 10 (by decide) (hts _ m_212) (fun _ h9 => h9) rfl d_Md_until_87 ?_
          refine lv_iload_n hx hb d_Md_until_90 rfl (lv_at hl 2 rfl) ?_
          refine rt_iald hx hb hK hP 1 0 rfl rfl (j - 1) ej (by omega) (by decide) d_Md_until_91 ?_
          refine lv_i2l (v := (f (j - 1)).toInt64) hx hb d_Md_until_92 rfl ?_
          refine lv_aload_n hx hb d_Md_until_93 rfl (lv_at hl 0 rfl) ?_
          refine va_get (D := (dC, dI)) (ci := 3) (v := .int rt) (C := R_Md) (T := F_Md) (N := 14) hx hb hts i_Md hown hK hP 0 rfl rfl 1 (by decide) (hts _ m_203) (fun _ h9 => h9) rfl d_Md_until_94 ?_
          refine lv_i2l (v := rt.toInt64) hx hb d_Md_until_97 rfl ?_
          refine lv_lsub hx hb d_Md_until_98 ?_
          refine lv_lstore (lv' := [(4, .long (((f (j - 1)).toInt64) - rt.toInt64)), (0, .ref h0), (1, .long (rt_ls (rt_ba sr pd ct cg) rt n f kj)), (3, .int (nI j - 1))]) hx hb d_Md_until_99 hl (by decide) rfl (fun ls hl => ?_)
          refine lv_aload_n hx hb d_Md_until_101 rfl (lv_at hl 1 rfl) ?_
          refine va_get (D := (dC, dI)) (ci := 3) (v := .ref h2) (C := R_Md) (T := F_Md) (N := 14) hx hb hts i_Md hown hK hP 0 rfl rfl 11 (by decide) (hts _ m_213) (fun _ h9 => h9) rfl d_Md_until_102 ?_
          refine lv_iload_n hx hb d_Md_until_105 rfl (lv_at hl 3 rfl) ?_
          refine rt_iald hx hb hK hP 2 1 rfl rfl (j - 1) ej (by omega) (by decide) d_Md_until_106 ?_
          refine lv_aload_n hx hb d_Md_until_107 rfl (lv_at hl 1 rfl) ?_
          refine va_get (D := (dC, dI)) (ci := 3) (v := .int mk) (C := R_Md) (T := F_Md) (N := 14) hx hb hts i_Md hown hK hP 0 rfl rfl 6 (by decide) (hts _ m_208) (fun _ h9 => h9) rfl d_Md_until_108 ?_
          refine lv_iand hx hb d_Md_until_111 ?_
          refine lv_if_eq (tgt := 127) hx hb d_Md_until_112 (by decide) (fun c_112 => ?_) (fun c_112 => ?_)
          · refine lv_lload_n hx hb d_Md_until_127 rfl (lv_at hl 2 rfl) ?_
            refine lv_lstore_n (lv' := [(1, .long (rt_ls (rt_ba sr pd ct cg) rt n f kj)), (4, .long (((f (j - 1)).toInt64) - rt.toInt64)), (0, .ref h0), (3, .int (nI j - 1))]) hx hb d_Md_until_128 rfl hl (by decide) rfl (fun ls hl => ?_)
            refine lv_iinc (v := (nI (j - 1) - 1)) (lv' := [(3, .int (nI (j - 1) - 1)), (1, .long (rt_ls (rt_ba sr pd ct cg) rt n f kj)), (4, .long (((f (j - 1)).toInt64) - rt.toInt64)), (0, .ref h0)]) hx hb d_Md_until_129 hl (k := 3) rfl (by rw [ej]; exact rt_dec _) (by decide) rfl (fun ls hl => ?_)
            refine lv_goto (tgt := 69) hx hb d_Md_until_132 (by decide) ?_
            have hl3 : lv_has ls 6 [(0, .ref h0), (1, .long (rt_ls (rt_ba sr pd ct cg) rt n f kj)), (3, .int (nI (j - 1) - 1))] := by
              have eL : rt_ls (rt_ba sr pd ct cg) rt n f kj = (rt_ls (rt_ba sr pd ct cg) rt n f kj) := rfl
              rw [eL]
              exact lv_sub hl [3, 1, 0] rfl
            exact ih (j - 1, kj) _ _ _ (by dsimp only; omega) ⟨⟨⟨by dsimp only; omega, by dsimp only; omega⟩, rt_nxS (by rw [show j - 1 + 1 = j by omega]; exact z3) c_112, fun h => absurd h c_83⟩, rfl, rfl, hl3⟩
          · refine lv_lload hx hb d_Md_until_115 (lv_at hl 0 rfl) ?_
            refine lv_lload_n hx hb d_Md_until_117 rfl (lv_at hl 2 rfl) ?_
            refine W.lcmp hx hb d_Md_until_118 ?_
            refine lv_if_ge (tgt := 127) hx hb d_Md_until_119 (by decide) (fun c_119 => ?_) (fun c_119 => ?_)
            · rw [lg_cmp_ge] at c_119
              refine lv_lload_n hx hb d_Md_until_127 rfl (lv_at hl 2 rfl) ?_
              refine lv_lstore_n (lv' := [(1, .long (rt_ls (rt_ba sr pd ct cg) rt n f kj)), (4, .long (((f (j - 1)).toInt64) - rt.toInt64)), (0, .ref h0), (3, .int (nI j - 1))]) hx hb d_Md_until_128 rfl hl (by decide) rfl (fun ls hl => ?_)
              refine lv_iinc (v := (nI (j - 1) - 1)) (lv' := [(3, .int (nI (j - 1) - 1)), (1, .long (rt_ls (rt_ba sr pd ct cg) rt n f kj)), (4, .long (((f (j - 1)).toInt64) - rt.toInt64)), (0, .ref h0)]) hx hb d_Md_until_129 hl (k := 3) rfl (by rw [ej]; exact rt_dec _) (by decide) rfl (fun ls hl => ?_)
              refine lv_goto (tgt := 69) hx hb d_Md_until_132 (by decide) ?_
              have hl3 : lv_has ls 6 [(0, .ref h0), (1, .long (rt_ls (rt_ba sr pd ct cg) rt n f (j - 1))), (3, .int (nI (j - 1) - 1))] := by
                have eL : rt_ls (rt_ba sr pd ct cg) rt n f (j - 1) = (rt_ls (rt_ba sr pd ct cg) rt n f kj) := (rt_lsA (g := g) (mk := mk) hs (show j - 1 < n by omega) (by rw [show j - 1 + 1 = j by omega]; exact z3) c_119).symm
                rw [eL]
                exact lv_sub hl [3, 1, 0] rfl
              exact ih (j - 1, (j - 1)) _ _ _ (by dsimp only; omega) ⟨⟨⟨by dsimp only; omega, by dsimp only; omega⟩, rt_nxH (by omega) c_112, fun h => absurd h c_83⟩, rfl, rfl, hl3⟩
            · rw [lg_cmp_ge] at c_119
              refine lv_lload hx hb d_Md_until_122 (lv_at hl 0 rfl) ?_
              refine lv_goto (tgt := 128) hx hb d_Md_until_124 (by decide) ?_
              refine lv_lstore_n (lv' := [(1, .long (((f (j - 1)).toInt64) - rt.toInt64)), (4, .long (((f (j - 1)).toInt64) - rt.toInt64)), (0, .ref h0), (3, .int (nI j - 1))]) hx hb d_Md_until_128 rfl hl (by decide) rfl (fun ls hl => ?_)
              refine lv_iinc (v := (nI (j - 1) - 1)) (lv' := [(3, .int (nI (j - 1) - 1)), (1, .long (((f (j - 1)).toInt64) - rt.toInt64)), (4, .long (((f (j - 1)).toInt64) - rt.toInt64)), (0, .ref h0)]) hx hb d_Md_until_129 hl (k := 3) rfl (by rw [ej]; exact rt_dec _) (by decide) rfl (fun ls hl => ?_)
              refine lv_goto (tgt := 69) hx hb d_Md_until_132 (by decide) ?_
              have hl3 : lv_has ls 6 [(0, .ref h0), (1, .long (rt_ls (rt_ba sr pd ct cg) rt n f (j - 1))), (3, .int (nI (j - 1) - 1))] := by
                have eL : rt_ls (rt_ba sr pd ct cg) rt n f (j - 1) = (((f (j - 1)).toInt64) - rt.toInt64) := (rt_lsB (show j - 1 < n by omega) c_119).symm
                rw [eL]
                exact lv_sub hl [3, 1, 0] rfl
              exact ih (j - 1, (j - 1)) _ _ _ (by dsimp only; omega) ⟨⟨⟨by dsimp only; omega, by dsimp only; omega⟩, rt_nxH (by omega) c_112, fun h => absurd h c_83⟩, rfl, rfl, hl3⟩
    · refine lv_aload_n hx hb d_Md_until_27 rfl (lv_at hl 1 rfl) ?_
      refine va_get (D := (dC, dI)) (ci := 3) (v := .int cg) (C := R_Md) (T := F_Md) (N := 14) hx hb hts i_Md hown hK hP 0 rfl rfl 4 (by decide) (hts _ m_206) (fun _ h9 => h9) rfl d_Md_until_28 ?_
      refine lv_if_eq (tgt := 62) hx hb d_Md_until_31 (by decide) (fun c_31 => ?_) (fun c_31 => ?_)
      · refine lv_aload_n hx hb d_Md_until_62 rfl (lv_at hl 1 rfl) ?_
        refine va_get (D := (dC, dI)) (ci := 3) (v := .int (nI n)) (C := R_Md) (T := F_Md) (N := 14) hx hb hts i_Md hown hK hP 0 rfl rfl 12 (by decide) (hts _ m_214) (fun _ h9 => h9) rfl d_Md_until_63 ?_
        refine lv_iconst (v := 1) hx hb d_Md_until_66 (by decide) ?_
        refine lv_isub hx hb d_Md_until_67 ?_
        refine lv_istore_n (lv' := [(3, .int ((nI n) - 1)), (1, .long 1099511627776), (0, .ref h0)]) hx hb d_Md_until_68 rfl hl (by decide) rfl (fun ls hl => ?_)
        have hB : rt_ls (rt_ba sr pd ct cg) rt n f n = 1099511627776 := by rw [rt_ls, if_neg (Nat.lt_irrefl _)]; rw [rt_ba, if_neg c_24, if_pos c_31]
        have hl2 : lv_has ls 6 [(0, .ref h0), (1, .long (rt_ls (rt_ba sr pd ct cg) rt n f n)), (3, .int (nI n - 1))] := by rw [hB]; exact lv_sub hl [2, 1, 0] rfl
        clear hl
        refine rt_loop (σ := Nat × Nat) (fun z => z.1) (fun z H' locs' ls' => ((c ≤ z.1 ∧ z.1 ≤ n) ∧ rt_nx g mk n z.1 z.2 ∧ (sr &&& 4 = 0 → z.2 = n)) ∧ H = H' ∧ locs = locs' ∧ lv_has ls' 6 [(0, .ref h0), (1, .long (rt_ls (rt_ba sr pd ct cg) rt n f z.2)), (3, .int (nI z.1 - 1))]) ?_ (n, n) _ _ _ ⟨⟨⟨hc.1, Nat.le_refl _⟩, ⟨Nat.le_refl _, Nat.le_refl _, fun j h1 h2 => absurd h2 (by dsimp only at h1; omega), fun h => absurd h (Nat.lt_irrefl _)⟩, fun _ => rfl⟩, rfl, rfl, hl2⟩
        intro z H' locs' ls hz ih
        obtain ⟨j, kj⟩ := z
        obtain ⟨⟨⟨z1, z2⟩, z3, z4⟩, rfl, rfl, hl⟩ := hz
        dsimp only at z1 z2 z3 z4
        have hl : lv_has ls 6 [(0, .ref h0), (1, .long (rt_ls (rt_ba sr pd ct cg) rt n f kj)), (3, .int (nI j - 1))] := hl
        refine lv_iload_n hx hb d_Md_until_69 rfl (lv_at hl 2 rfl) ?_
        refine lv_aload_n hx hb d_Md_until_70 rfl (lv_at hl 0 rfl) ?_
        refine va_get (D := (dC, dI)) (ci := 3) (v := .int (nI c)) (C := R_Md) (T := F_Md) (N := 14) hx hb hts i_Md hown hK hP 0 rfl rfl 13 (by decide) (hts _ m_215) (fun _ h9 => h9) rfl d_Md_until_71 ?_
        refine lv_icmp_lt (tgt := 135) hx hb d_Md_until_74 (by decide) (fun c_74 => ?_) (fun c_74 => ?_)
        · rw [rt_jlt (by omega) (by have := hc.1; omega)] at c_74
          have hkf : kj = if sr &&& 4 = 0 then n else k := by
            by_cases h4 : sr &&& 4 = 0
            · rw [if_pos h4]; exact z4 h4
            · rw [if_neg h4]
              obtain rfl : j = c := by omega
              exact rt_nxU z3 hk
          refine lv_aload_n hx hb d_Md_until_135 rfl (lv_at hl 0 rfl) ?_
          refine va_get (D := (dC, dI)) (ci := 3) (v := .int rt) (C := R_Md) (T := F_Md) (N := 14) hx hb hts i_Md hown hK hP 0 rfl rfl 1 (by decide) (hts _ m_203) (fun _ h9 => h9) rfl d_Md_until_136 ?_
          refine lv_i2l (v := rt.toInt64) hx hb d_Md_until_139 rfl ?_
          refine lv_lload_n hx hb d_Md_until_140 rfl (lv_at hl 1 rfl) ?_
          refine lv_ladd hx hb d_Md_until_141 ?_
          refine lv_ldc2 hx hb hown (hts _ m_305) d_Md_until_142 ?_
          refine W.lcmp hx hb d_Md_until_145 ?_
          refine lv_if_le (tgt := 153) hx hb d_Md_until_146 (by decide) (fun c_146 => ?_) (fun c_146 => ?_)
          · rw [lg_cmp_le] at c_146
            refine lv_lload_n hx hb d_Md_until_153 rfl (lv_at hl 1 rfl) ?_
            refine lv_l2i (v := (rt_ls (rt_ba sr pd ct cg) rt n f kj).toInt32) hx hb d_Md_until_154 rfl ?_
            refine rt_iret hx hb hr hlocks () ?_ hP hK hD hS d_Md_until_155
            exact (rt_unN hI hk c_9 hkf).1 c_146
          · rw [lg_cmp_le] at c_146
            refine lv_iconst (v := (-1)) hx hb d_Md_until_149 (by decide) ?_
            refine lv_goto (tgt := 155) hx hb d_Md_until_150 (by decide) ?_
            refine rt_iret hx hb hr hlocks () ?_ hP hK hD hS d_Md_until_155
            exact (rt_unN hI hk c_9 hkf).2 c_146
        · rw [rt_jlt (by omega) (by have := hc.1; omega)] at c_74
          refine lv_aload_n hx hb d_Md_until_77 rfl (lv_at hl 0 rfl) ?_
          refine va_get (D := (dC, dI)) (ci := 3) (v := .int sr) (C := R_Md) (T := F_Md) (N := 14) hx hb hts i_Md hown hK hP 0 rfl rfl 7 (by decide) (hts _ m_209) (fun _ h9 => h9) rfl d_Md_until_78 ?_
          refine lv_iconst (v := 4) hx hb d_Md_until_81 (by decide) ?_
          refine lv_iand hx hb d_Md_until_82 ?_
          refine lv_if_eq (tgt := 135) hx hb d_Md_until_83 (by decide) (fun c_83 => ?_) (fun c_83 => ?_)
          · have hkf : kj = if sr &&& 4 = 0 then n else k := by rw [if_pos c_83]; exact z4 c_83
            refine lv_aload_n hx hb d_Md_until_135 rfl (lv_at hl 0 rfl) ?_
            refine va_get (D := (dC, dI)) (ci := 3) (v := .int rt) (C := R_Md) (T := F_Md) (N := 14) hx hb hts i_Md hown hK hP 0 rfl rfl 1 (by decide) (hts _ m_203) (fun _ h9 => h9) rfl d_Md_until_136 ?_
            refine lv_i2l (v := rt.toInt64) hx hb d_Md_until_139 rfl ?_
            refine lv_lload_n hx hb d_Md_until_140 rfl (lv_at hl 1 rfl) ?_
            refine lv_ladd hx hb d_Md_until_141 ?_
            refine lv_ldc2 hx hb hown (hts _ m_305) d_Md_until_142 ?_
            refine W.lcmp hx hb d_Md_until_145 ?_
            refine lv_if_le (tgt := 153) hx hb d_Md_until_146 (by decide) (fun c_146 => ?_) (fun c_146 => ?_)
            · rw [lg_cmp_le] at c_146
              refine lv_lload_n hx hb d_Md_until_153 rfl (lv_at hl 1 rfl) ?_
              refine lv_l2i (v := (rt_ls (rt_ba sr pd ct cg) rt n f kj).toInt32) hx hb d_Md_until_154 rfl ?_
              refine rt_iret hx hb hr hlocks () ?_ hP hK hD hS d_Md_until_155
              exact (rt_unN hI hk c_9 hkf).1 c_146
            · rw [lg_cmp_le] at c_146
              refine lv_iconst (v := (-1)) hx hb d_Md_until_149 (by decide) ?_
              refine lv_goto (tgt := 155) hx hb d_Md_until_150 (by decide) ?_
              refine rt_iret hx hb hr hlocks () ?_ hP hK hD hS d_Md_until_155
              exact (rt_unN hI hk c_9 hkf).2 c_146
          · have ej : nI j - 1 = nI (j - 1) := rt_pm (by omega)
            refine lv_aload_n hx hb d_Md_until_86 rfl (lv_at hl 0 rfl) ?_
            refine va_get (D := (dC, dI)) (ci := 3) (v := .ref h1) (C := R_Md) (T := F_Md) (N := 14) hx hb hts i_Md hown hK hP 0 rfl rfl 10 (by decide) (hts _ m_212) (fun _ h9 => h9) rfl d_Md_until_87 ?_
            refine lv_iload_n hx hb d_Md_until_90 rfl (lv_at hl 2 rfl) ?_
            refine rt_iald hx hb hK hP 1 0 rfl rfl (j - 1) ej (by omega) (by decide) d_Md_until_91 ?_
            refine lv_i2l (v := (f (j - 1)).toInt64) hx hb d_Md_until_92 rfl ?_
            refine lv_aload_n hx hb d_Md_until_93 rfl (lv_at hl 0 rfl) ?_
            refine va_get (D := (dC, dI)) (ci := 3) (v := .int rt) (C := R_Md) (T := F_Md) (N := 14) hx hb hts i_Md hown hK hP 0 rfl rfl 1 (by decide) (hts _ m_203) (fun _ h9 => h9) rfl d_Md_until_94 ?_
            refine lv_i2l (v := rt.toInt64) hx hb d_Md_until_97 rfl ?_
            refine lv_lsub hx hb d_Md_until_98 ?_
            refine lv_lstore (lv' := [(4, .long (((f (j - 1)).toInt64) - rt.toInt64)), (0, .ref h0), (1, .long (rt_ls (rt_ba sr pd ct cg) rt n f kj)), (3, .int (nI j - 1))]) hx hb d_Md_until_99 hl (by decide) rfl (fun ls hl => ?_)
            refine lv_aload_n hx hb d_Md_until_101 rfl (lv_at hl 1 rfl) ?_
            refine va_get (D := (dC, dI)) (ci := 3) (v := .ref h2) (C := R_Md) (T := F_Md) (N := 14) hx hb hts i_Md hown hK hP 0 rfl rfl 11 (by decide) (hts _ m_213) (fun _ h9 => h9) rfl d_Md_until_102 ?_
            refine lv_iload_n hx hb d_Md_until_105 rfl (lv_at hl 3 rfl) ?_
            refine rt_iald hx hb hK hP 2 1 rfl rfl (j - 1) ej (by omega) (by decide) d_Md_until_106 ?_
            refine lv_aload_n hx hb d_Md_until_107 rfl (lv_at hl 1 rfl) ?_
            refine va_get (D := (dC, dI)) (ci := 3) (v := .int mk) (C := R_Md) (T := F_Md) (N := 14) hx hb hts i_Md hown hK hP 0 rfl rfl 6 (by decide) (hts _ m_208) (fun _ h9 => h9) rfl d_Md_until_108 ?_
            refine lv_iand hx hb d_Md_until_111 ?_
            refine lv_if_eq (tgt := 127) hx hb d_Md_until_112 (by decide) (fun c_112 => ?_) (fun c_112 => ?_)
            · refine lv_lload_n hx hb d_Md_until_127 rfl (lv_at hl 2 rfl) ?_
              refine lv_lstore_n (lv' := [(1, .long (rt_ls (rt_ba sr pd ct cg) rt n f kj)), (4, .long (((f (j - 1)).toInt64) - rt.toInt64)), (0, .ref h0), (3, .int (nI j - 1))]) hx hb d_Md_until_128 rfl hl (by decide) rfl (fun ls hl => ?_)
              refine lv_iinc (v := (nI (j - 1) - 1)) (lv' := [(3, .int (nI (j - 1) - 1)), (1, .long (rt_ls (rt_ba sr pd ct cg) rt n f kj)), (4, .long (((f (j - 1)).toInt64) - rt.toInt64)), (0, .ref h0)]) hx hb d_Md_until_129 hl (k := 3) rfl (by rw [ej]; exact rt_dec _) (by decide) rfl (fun ls hl => ?_)
              refine lv_goto (tgt := 69) hx hb d_Md_until_132 (by decide) ?_
              have hl3 : lv_has ls 6 [(0, .ref h0), (1, .long (rt_ls (rt_ba sr pd ct cg) rt n f kj)), (3, .int (nI (j - 1) - 1))] := by
                have eL : rt_ls (rt_ba sr pd ct cg) rt n f kj = (rt_ls (rt_ba sr pd ct cg) rt n f kj) := rfl
                rw [eL]
                exact lv_sub hl [3, 1, 0] rfl
              exact ih (j - 1, kj) _ _ _ (by dsimp only; omega) ⟨⟨⟨by dsimp only; omega, by dsimp only; omega⟩, rt_nxS (by rw [show j - 1 + 1 = j by omega]; exact z3) c_112, fun h => absurd h c_83⟩, rfl, rfl, hl3⟩
            · refine lv_lload hx hb d_Md_until_115 (lv_at hl 0 rfl) ?_
              refine lv_lload_n hx hb d_Md_until_117 rfl (lv_at hl 2 rfl) ?_
              refine W.lcmp hx hb d_Md_until_118 ?_
              refine lv_if_ge (tgt := 127) hx hb d_Md_until_119 (by decide) (fun c_119 => ?_) (fun c_119 => ?_)
              · rw [lg_cmp_ge] at c_119
                refine lv_lload_n hx hb d_Md_until_127 rfl (lv_at hl 2 rfl) ?_
                refine lv_lstore_n (lv' := [(1, .long (rt_ls (rt_ba sr pd ct cg) rt n f kj)), (4, .long (((f (j - 1)).toInt64) - rt.toInt64)), (0, .ref h0), (3, .int (nI j - 1))]) hx hb d_Md_until_128 rfl hl (by decide) rfl (fun ls hl => ?_)
                refine lv_iinc (v := (nI (j - 1) - 1)) (lv' := [(3, .int (nI (j - 1) - 1)), (1, .long (rt_ls (rt_ba sr pd ct cg) rt n f kj)), (4, .long (((f (j - 1)).toInt64) - rt.toInt64)), (0, .ref h0)]) hx hb d_Md_until_129 hl (k := 3) rfl (by rw [ej]; exact rt_dec _) (by decide) rfl (fun ls hl => ?_)
                refine lv_goto (tgt := 69) hx hb d_Md_until_132 (by decide) ?_
                have hl3 : lv_has ls 6 [(0, .ref h0), (1, .long (rt_ls (rt_ba sr pd ct cg) rt n f (j - 1))), (3, .int (nI (j - 1) - 1))] := by
                  have eL : rt_ls (rt_ba sr pd ct cg) rt n f (j - 1) = (rt_ls (rt_ba sr pd ct cg) rt n f kj) := (rt_lsA (g := g) (mk := mk) hs (show j - 1 < n by omega) (by rw [show j - 1 + 1 = j by omega]; exact z3) c_119).symm
                  rw [eL]
                  exact lv_sub hl [3, 1, 0] rfl
                exact ih (j - 1, (j - 1)) _ _ _ (by dsimp only; omega) ⟨⟨⟨by dsimp only; omega, by dsimp only; omega⟩, rt_nxH (by omega) c_112, fun h => absurd h c_83⟩, rfl, rfl, hl3⟩
              · rw [lg_cmp_ge] at c_119
                refine lv_lload hx hb d_Md_until_122 (lv_at hl 0 rfl) ?_
                refine lv_goto (tgt := 128) hx hb d_Md_until_124 (by decide) ?_
                refine lv_lstore_n (lv' := [(1, .long (((f (j - 1)).toInt64) - rt.toInt64)), (4, .long (((f (j - 1)).toInt64) - rt.toInt64)), (0, .ref h0), (3, .int (nI j - 1))]) hx hb d_Md_until_128 rfl hl (by decide) rfl (fun ls hl => ?_)
                refine lv_iinc (v := (nI (j - 1) - 1)) (lv' := [(3, .int (nI (j - 1) - 1)), (1, .long (((f (j - 1)).toInt64) - rt.toInt64)), (4, .long (((f (j - 1)).toInt64) - rt.toInt64)), (0, .ref h0)]) hx hb d_Md_until_129 hl (k := 3) rfl (by rw [ej]; exact rt_dec _) (by decide) rfl (fun ls hl => ?_)
                refine lv_goto (tgt := 69) hx hb d_Md_until_132 (by decide) ?_
                have hl3 : lv_has ls 6 [(0, .ref h0), (1, .long (rt_ls (rt_ba sr pd ct cg) rt n f (j - 1))), (3, .int (nI (j - 1) - 1))] := by
                  have eL : rt_ls (rt_ba sr pd ct cg) rt n f (j - 1) = (((f (j - 1)).toInt64) - rt.toInt64) := (rt_lsB (show j - 1 < n by omega) c_119).symm
                  rw [eL]
                  exact lv_sub hl [3, 1, 0] rfl
                exact ih (j - 1, (j - 1)) _ _ _ (by dsimp only; omega) ⟨⟨⟨by dsimp only; omega, by dsimp only; omega⟩, rt_nxH (by omega) c_112, fun h => absurd h c_83⟩, rfl, rfl, hl3⟩
      · refine lv_aload_n hx hb d_Md_until_34 rfl (lv_at hl 1 rfl) ?_
        refine va_get (D := (dC, dI)) (ci := 3) (v := .int pd) (C := R_Md) (T := F_Md) (N := 14) hx hb hts i_Md hown hK hP 0 rfl rfl 3 (by decide) (hts _ m_205) (fun _ h9 => h9) rfl d_Md_until_35 ?_
        refine lv_i2l (v := pd.toInt64) hx hb d_Md_until_38 rfl ?_
        refine lv_aload_n hx hb d_Md_until_39 rfl (lv_at hl 1 rfl) ?_
        refine va_get (D := (dC, dI)) (ci := 3) (v := .int ct) (C := R_Md) (T := F_Md) (N := 14) hx hb hts i_Md hown hK hP 0 rfl rfl 2 (by decide) (hts _ m_204) (fun _ h9 => h9) rfl d_Md_until_40 ?_
        refine lv_i2l (v := ct.toInt64) hx hb d_Md_until_43 rfl ?_
        refine lv_lsub hx hb d_Md_until_44 ?_
        refine lv_lstore_n (lv' := [(3, .long (pd.toInt64 - ct.toInt64)), (1, .long 1099511627776), (0, .ref h0)]) hx hb d_Md_until_45 rfl hl (by decide) rfl (fun ls hl => ?_)
        refine lv_lload_n hx hb d_Md_until_46 rfl (lv_at hl 0 rfl) ?_
        refine lv_lconst (v := 0) hx hb d_Md_until_47 (by decide) ?_
        refine W.lcmp hx hb d_Md_until_48 ?_
        refine lv_if_le (tgt := 56) hx hb d_Md_until_49 (by decide) (fun c_49 => ?_) (fun c_49 => ?_)
        · rw [lg_cmp_le] at c_49
          refine lv_lload_n hx hb d_Md_until_56 rfl (lv_at hl 0 rfl) ?_
          refine lv_ldc2 hx hb hown (hts _ m_304) d_Md_until_57 ?_
          refine lv_ladd hx hb d_Md_until_60 ?_
          refine rt_topl (rt_wy pd ct) (rt_wyN hIp c_49) ?_
          refine lv_lstore_n (lv' := [(1, .long (rt_wy pd ct)), (3, .long (pd.toInt64 - ct.toInt64)), (0, .ref h0)]) hx hb d_Md_until_61 rfl hl (by decide) rfl (fun ls hl => ?_)
          refine lv_aload_n hx hb d_Md_until_62 rfl (lv_at hl 2 rfl) ?_
          refine va_get (D := (dC, dI)) (ci := 3) (v := .int (nI n)) (C := R_Md) (T := F_Md) (N := 14) hx hb hts i_Md hown hK hP 0 rfl rfl 12 (by decide) (hts _ m_214) (fun _ h9 => h9) rfl d_Md_until_63 ?_
          refine lv_iconst (v := 1) hx hb d_Md_until_66 (by decide) ?_
          refine lv_isub hx hb d_Md_until_67 ?_
          refine lv_istore_n (lv' := [(3, .int ((nI n) - 1)), (1, .long (rt_wy pd ct)), (0, .ref h0)]) hx hb d_Md_until_68 rfl hl (by decide) rfl (fun ls hl => ?_)
          have hB : rt_ls (rt_ba sr pd ct cg) rt n f n = (rt_wy pd ct) := by rw [rt_ls, if_neg (Nat.lt_irrefl _)]; rw [rt_ba, if_neg c_24, if_neg c_31]
          have hl2 : lv_has ls 6 [(0, .ref h0), (1, .long (rt_ls (rt_ba sr pd ct cg) rt n f n)), (3, .int (nI n - 1))] := by rw [hB]; exact lv_sub hl [2, 1, 0] rfl
          clear hl
          refine rt_loop (σ := Nat × Nat) (fun z => z.1) (fun z H' locs' ls' => ((c ≤ z.1 ∧ z.1 ≤ n) ∧ rt_nx g mk n z.1 z.2 ∧ (sr &&& 4 = 0 → z.2 = n)) ∧ H = H' ∧ locs = locs' ∧ lv_has ls' 6 [(0, .ref h0), (1, .long (rt_ls (rt_ba sr pd ct cg) rt n f z.2)), (3, .int (nI z.1 - 1))]) ?_ (n, n) _ _ _ ⟨⟨⟨hc.1, Nat.le_refl _⟩, ⟨Nat.le_refl _, Nat.le_refl _, fun j h1 h2 => absurd h2 (by dsimp only at h1; omega), fun h => absurd h (Nat.lt_irrefl _)⟩, fun _ => rfl⟩, rfl, rfl, hl2⟩
          intro z H' locs' ls hz ih
          obtain ⟨j, kj⟩ := z
          obtain ⟨⟨⟨z1, z2⟩, z3, z4⟩, rfl, rfl, hl⟩ := hz
          dsimp only at z1 z2 z3 z4
          have hl : lv_has ls 6 [(0, .ref h0), (1, .long (rt_ls (rt_ba sr pd ct cg) rt n f kj)), (3, .int (nI j - 1))] := hl
          refine lv_iload_n hx hb d_Md_until_69 rfl (lv_at hl 2 rfl) ?_
          refine lv_aload_n hx hb d_Md_until_70 rfl (lv_at hl 0 rfl) ?_
          refine va_get (D := (dC, dI)) (ci := 3) (v := .int (nI c)) (C := R_Md) (T := F_Md) (N := 14) hx hb hts i_Md hown hK hP 0 rfl rfl 13 (by decide) (hts _ m_215) (fun _ h9 => h9) rfl d_Md_until_71 ?_
          refine lv_icmp_lt (tgt := 135) hx hb d_Md_until_74 (by decide) (fun c_74 => ?_) (fun c_74 => ?_)
          · rw [rt_jlt (by omega) (by have := hc.1; omega)] at c_74
            have hkf : kj = if sr &&& 4 = 0 then n else k := by
              by_cases h4 : sr &&& 4 = 0
              · rw [if_pos h4]; exact z4 h4
              · rw [if_neg h4]
                obtain rfl : j = c := by omega
                exact rt_nxU z3 hk
            refine lv_aload_n hx hb d_Md_until_135 rfl (lv_at hl 0 rfl) ?_
            refine va_get (D := (dC, dI)) (ci := 3) (v := .int rt) (C := R_Md) (T := F_Md) (N := 14) hx hb hts i_Md hown hK hP 0 rfl rfl 1 (by decide) (hts _ m_203) (fun _ h9 => h9) rfl d_Md_until_136 ?_
            refine lv_i2l (v := rt.toInt64) hx hb d_Md_until_139 rfl ?_
            refine lv_lload_n hx hb d_Md_until_140 rfl (lv_at hl 1 rfl) ?_
            refine lv_ladd hx hb d_Md_until_141 ?_
            refine lv_ldc2 hx hb hown (hts _ m_305) d_Md_until_142 ?_
            refine W.lcmp hx hb d_Md_until_145 ?_
            refine lv_if_le (tgt := 153) hx hb d_Md_until_146 (by decide) (fun c_146 => ?_) (fun c_146 => ?_)
            · rw [lg_cmp_le] at c_146
              refine lv_lload_n hx hb d_Md_until_153 rfl (lv_at hl 1 rfl) ?_
              refine lv_l2i (v := (rt_ls (rt_ba sr pd ct cg) rt n f kj).toInt32) hx hb d_Md_until_154 rfl ?_
              refine rt_iret hx hb hr hlocks () ?_ hP hK hD hS d_Md_until_155
              exact (rt_unN hI hk c_9 hkf).1 c_146
            · rw [lg_cmp_le] at c_146
              refine lv_iconst (v := (-1)) hx hb d_Md_until_149 (by decide) ?_
              refine lv_goto (tgt := 155) hx hb d_Md_until_150 (by decide) ?_
              refine rt_iret hx hb hr hlocks () ?_ hP hK hD hS d_Md_until_155
              exact (rt_unN hI hk c_9 hkf).2 c_146
          · rw [rt_jlt (by omega) (by have := hc.1; omega)] at c_74
            refine lv_aload_n hx hb d_Md_until_77 rfl (lv_at hl 0 rfl) ?_
            refine va_get (D := (dC, dI)) (ci := 3) (v := .int sr) (C := R_Md) (T := F_Md) (N := 14) hx hb hts i_Md hown hK hP 0 rfl rfl 7 (by decide) (hts _ m_209) (fun _ h9 => h9) rfl d_Md_until_78 ?_
            refine lv_iconst (v := 4) hx hb d_Md_until_81 (by decide) ?_
            refine lv_iand hx hb d_Md_until_82 ?_
            refine lv_if_eq (tgt := 135) hx hb d_Md_until_83 (by decide) (fun c_83 => ?_) (fun c_83 => ?_)
            · have hkf : kj = if sr &&& 4 = 0 then n else k := by rw [if_pos c_83]; exact z4 c_83
              refine lv_aload_n hx hb d_Md_until_135 rfl (lv_at hl 0 rfl) ?_
              refine va_get (D := (dC, dI)) (ci := 3) (v := .int rt) (C := R_Md) (T := F_Md) (N := 14) hx hb hts i_Md hown hK hP 0 rfl rfl 1 (by decide) (hts _ m_203) (fun _ h9 => h9) rfl d_Md_until_136 ?_
              refine lv_i2l (v := rt.toInt64) hx hb d_Md_until_139 rfl ?_
              refine lv_lload_n hx hb d_Md_until_140 rfl (lv_at hl 1 rfl) ?_
              refine lv_ladd hx hb d_Md_until_141 ?_
              refine lv_ldc2 hx hb hown (hts _ m_305) d_Md_until_142 ?_
              refine W.lcmp hx hb d_Md_until_145 ?_
              refine lv_if_le (tgt := 153) hx hb d_Md_until_146 (by decide) (fun c_146 => ?_) (fun c_146 => ?_)
              · rw [lg_cmp_le] at c_146
                refine lv_lload_n hx hb d_Md_until_153 rfl (lv_at hl 1 rfl) ?_
                refine lv_l2i (v := (rt_ls (rt_ba sr pd ct cg) rt n f kj).toInt32) hx hb d_Md_until_154 rfl ?_
                refine rt_iret hx hb hr hlocks () ?_ hP hK hD hS d_Md_until_155
                exact (rt_unN hI hk c_9 hkf).1 c_146
              · rw [lg_cmp_le] at c_146
                refine lv_iconst (v := (-1)) hx hb d_Md_until_149 (by decide) ?_
                refine lv_goto (tgt := 155) hx hb d_Md_until_150 (by decide) ?_
                refine rt_iret hx hb hr hlocks () ?_ hP hK hD hS d_Md_until_155
                exact (rt_unN hI hk c_9 hkf).2 c_146
            · have ej : nI j - 1 = nI (j - 1) := rt_pm (by omega)
              refine lv_aload_n hx hb d_Md_until_86 rfl (lv_at hl 0 rfl) ?_
              refine va_get (D := (dC, dI)) (ci := 3) (v := .ref h1) (C := R_Md) (T := F_Md) (N := 14) hx hb hts i_Md hown hK hP 0 rfl rfl 10 (by decide) (hts _ m_212) (fun _ h9 => h9) rfl d_Md_until_87 ?_
              refine lv_iload_n hx hb d_Md_until_90 rfl (lv_at hl 2 rfl) ?_
              refine rt_iald hx hb hK hP 1 0 rfl rfl (j - 1) ej (by omega) (by decide) d_Md_until_91 ?_
              refine lv_i2l (v := (f (j - 1)).toInt64) hx hb d_Md_until_92 rfl ?_
              refine lv_aload_n hx hb d_Md_until_93 rfl (lv_at hl 0 rfl) ?_
              refine va_get (D := (dC, dI)) (ci := 3) (v := .int rt) (C := R_Md) (T := F_Md) (N := 14) hx hb hts i_Md hown hK hP 0 rfl rfl 1 (by decide) (hts _ m_203) (fun _ h9 => h9) rfl d_Md_until_94 ?_
              refine lv_i2l (v := rt.toInt64) hx hb d_Md_until_97 rfl ?_
              refine lv_lsub hx hb d_Md_until_98 ?_
              refine lv_lstore (lv' := [(4, .long (((f (j - 1)).toInt64) - rt.toInt64)), (0, .ref h0), (1, .long (rt_ls (rt_ba sr pd ct cg) rt n f kj)), (3, .int (nI j - 1))]) hx hb d_Md_until_99 hl (by decide) rfl (fun ls hl => ?_)
              refine lv_aload_n hx hb d_Md_until_101 rfl (lv_at hl 1 rfl) ?_
              refine va_get (D := (dC, dI)) (ci := 3) (v := .ref h2) (C := R_Md) (T := F_Md) (N := 14) hx hb hts i_Md hown hK hP 0 rfl rfl 11 (by decide) (hts _ m_213) (fun _ h9 => h9) rfl d_Md_until_102 ?_
              refine lv_iload_n hx hb d_Md_until_105 rfl (lv_at hl 3 rfl) ?_
              refine rt_iald hx hb hK hP 2 1 rfl rfl (j - 1) ej (by omega) (by decide) d_Md_until_106 ?_
              refine lv_aload_n hx hb d_Md_until_107 rfl (lv_at hl 1 rfl) ?_
              refine va_get (D := (dC, dI)) (ci := 3) (v := .int mk) (C := R_Md) (T := F_Md) (N := 14) hx hb hts i_Md hown hK hP 0 rfl rfl 6 (by decide) (hts _ m_208) (fun _ h9 => h9) rfl d_Md_until_108 ?_
              refine lv_iand hx hb d_Md_until_111 ?_
              refine lv_if_eq (tgt := 127) hx hb d_Md_until_112 (by decide) (fun c_112 => ?_) (fun c_112 => ?_)
              · refine lv_lload_n hx hb d_Md_until_127 rfl (lv_at hl 2 rfl) ?_
                refine lv_lstore_n (lv' := [(1, .long (rt_ls (rt_ba sr pd ct cg) rt n f kj)), (4, .long (((f (j - 1)).toInt64) - rt.toInt64)), (0, .ref h0), (3, .int (nI j - 1))]) hx hb d_Md_until_128 rfl hl (by decide) rfl (fun ls hl => ?_)
                refine lv_iinc (v := (nI (j - 1) - 1)) (lv' := [(3, .int (nI (j - 1) - 1)), (1, .long (rt_ls (rt_ba sr pd ct cg) rt n f kj)), (4, .long (((f (j - 1)).toInt64) - rt.toInt64)), (0, .ref h0)]) hx hb d_Md_until_129 hl (k := 3) rfl (by rw [ej]; exact rt_dec _) (by decide) rfl (fun ls hl => ?_)
                refine lv_goto (tgt := 69) hx hb d_Md_until_132 (by decide) ?_
                have hl3 : lv_has ls 6 [(0, .ref h0), (1, .long (rt_ls (rt_ba sr pd ct cg) rt n f kj)), (3, .int (nI (j - 1) - 1))] := by
                  have eL : rt_ls (rt_ba sr pd ct cg) rt n f kj = (rt_ls (rt_ba sr pd ct cg) rt n f kj) := rfl
                  rw [eL]
                  exact lv_sub hl [3, 1, 0] rfl
                exact ih (j - 1, kj) _ _ _ (by dsimp only; omega) ⟨⟨⟨by dsimp only; omega, by dsimp only; omega⟩, rt_nxS (by rw [show j - 1 + 1 = j by omega]; exact z3) c_112, fun h => absurd h c_83⟩, rfl, rfl, hl3⟩
              · refine lv_lload hx hb d_Md_until_115 (lv_at hl 0 rfl) ?_
                refine lv_lload_n hx hb d_Md_until_117 rfl (lv_at hl 2 rfl) ?_
                refine W.lcmp hx hb d_Md_until_118 ?_
                refine lv_if_ge (tgt := 127) hx hb d_Md_until_119 (by decide) (fun c_119 => ?_) (fun c_119 => ?_)
                · rw [lg_cmp_ge] at c_119
                  refine lv_lload_n hx hb d_Md_until_127 rfl (lv_at hl 2 rfl) ?_
                  refine lv_lstore_n (lv' := [(1, .long (rt_ls (rt_ba sr pd ct cg) rt n f kj)), (4, .long (((f (j - 1)).toInt64) - rt.toInt64)), (0, .ref h0), (3, .int (nI j - 1))]) hx hb d_Md_until_128 rfl hl (by decide) rfl (fun ls hl => ?_)
                  refine lv_iinc (v := (nI (j - 1) - 1)) (lv' := [(3, .int (nI (j - 1) - 1)), (1, .long (rt_ls (rt_ba sr pd ct cg) rt n f kj)), (4, .long (((f (j - 1)).toInt64) - rt.toInt64)), (0, .ref h0)]) hx hb d_Md_until_129 hl (k := 3) rfl (by rw [ej]; exact rt_dec _) (by decide) rfl (fun ls hl => ?_)
                  refine lv_goto (tgt := 69) hx hb d_Md_until_132 (by decide) ?_
                  have hl3 : lv_has ls 6 [(0, .ref h0), (1, .long (rt_ls (rt_ba sr pd ct cg) rt n f (j - 1))), (3, .int (nI (j - 1) - 1))] := by
                    have eL : rt_ls (rt_ba sr pd ct cg) rt n f (j - 1) = (rt_ls (rt_ba sr pd ct cg) rt n f kj) := (rt_lsA (g := g) (mk := mk) hs (show j - 1 < n by omega) (by rw [show j - 1 + 1 = j by omega]; exact z3) c_119).symm
                    rw [eL]
                    exact lv_sub hl [3, 1, 0] rfl
                  exact ih (j - 1, (j - 1)) _ _ _ (by dsimp only; omega) ⟨⟨⟨by dsimp only; omega, by dsimp only; omega⟩, rt_nxH (by omega) c_112, fun h => absurd h c_83⟩, rfl, rfl, hl3⟩
                · rw [lg_cmp_ge] at c_119
                  refine lv_lload hx hb d_Md_until_122 (lv_at hl 0 rfl) ?_
                  refine lv_goto (tgt := 128) hx hb d_Md_until_124 (by decide) ?_
                  refine lv_lstore_n (lv' := [(1, .long (((f (j - 1)).toInt64) - rt.toInt64)), (4, .long (((f (j - 1)).toInt64) - rt.toInt64)), (0, .ref h0), (3, .int (nI j - 1))]) hx hb d_Md_until_128 rfl hl (by decide) rfl (fun ls hl => ?_)
                  refine lv_iinc (v := (nI (j - 1) - 1)) (lv' := [(3, .int (nI (j - 1) - 1)), (1, .long (((f (j - 1)).toInt64) - rt.toInt64)), (4, .long (((f (j - 1)).toInt64) - rt.toInt64)), (0, .ref h0)]) hx hb d_Md_until_129 hl (k := 3) rfl (by rw [ej]; exact rt_dec _) (by decide) rfl (fun ls hl => ?_)
                  refine lv_goto (tgt := 69) hx hb d_Md_until_132 (by decide) ?_
                  have hl3 : lv_has ls 6 [(0, .ref h0), (1, .long (rt_ls (rt_ba sr pd ct cg) rt n f (j - 1))), (3, .int (nI (j - 1) - 1))] := by
                    have eL : rt_ls (rt_ba sr pd ct cg) rt n f (j - 1) = (((f (j - 1)).toInt64) - rt.toInt64) := (rt_lsB (show j - 1 < n by omega) c_119).symm
                    rw [eL]
                    exact lv_sub hl [3, 1, 0] rfl
                  exact ih (j - 1, (j - 1)) _ _ _ (by dsimp only; omega) ⟨⟨⟨by dsimp only; omega, by dsimp only; omega⟩, rt_nxH (by omega) c_112, fun h => absurd h c_83⟩, rfl, rfl, hl3⟩
        · rw [lg_cmp_le] at c_49
          refine lv_lload_n hx hb d_Md_until_52 rfl (lv_at hl 0 rfl) ?_
          refine rt_topl (rt_wy pd ct) (rt_wyP hIp c_49) ?_
          refine lv_goto (tgt := 61) hx hb d_Md_until_53 (by decide) ?_
          refine lv_lstore_n (lv' := [(1, .long (rt_wy pd ct)), (3, .long (pd.toInt64 - ct.toInt64)), (0, .ref h0)]) hx hb d_Md_until_61 rfl hl (by decide) rfl (fun ls hl => ?_)
          refine lv_aload_n hx hb d_Md_until_62 rfl (lv_at hl 2 rfl) ?_
          refine va_get (D := (dC, dI)) (ci := 3) (v := .int (nI n)) (C := R_Md) (T := F_Md) (N := 14) hx hb hts i_Md hown hK hP 0 rfl rfl 12 (by decide) (hts _ m_214) (fun _ h9 => h9) rfl d_Md_until_63 ?_
          refine lv_iconst (v := 1) hx hb d_Md_until_66 (by decide) ?_
          refine lv_isub hx hb d_Md_until_67 ?_
          refine lv_istore_n (lv' := [(3, .int ((nI n) - 1)), (1, .long (rt_wy pd ct)), (0, .ref h0)]) hx hb d_Md_until_68 rfl hl (by decide) rfl (fun ls hl => ?_)
          have hB : rt_ls (rt_ba sr pd ct cg) rt n f n = (rt_wy pd ct) := by rw [rt_ls, if_neg (Nat.lt_irrefl _)]; rw [rt_ba, if_neg c_24, if_neg c_31]
          have hl2 : lv_has ls 6 [(0, .ref h0), (1, .long (rt_ls (rt_ba sr pd ct cg) rt n f n)), (3, .int (nI n - 1))] := by rw [hB]; exact lv_sub hl [2, 1, 0] rfl
          clear hl
          refine rt_loop (σ := Nat × Nat) (fun z => z.1) (fun z H' locs' ls' => ((c ≤ z.1 ∧ z.1 ≤ n) ∧ rt_nx g mk n z.1 z.2 ∧ (sr &&& 4 = 0 → z.2 = n)) ∧ H = H' ∧ locs = locs' ∧ lv_has ls' 6 [(0, .ref h0), (1, .long (rt_ls (rt_ba sr pd ct cg) rt n f z.2)), (3, .int (nI z.1 - 1))]) ?_ (n, n) _ _ _ ⟨⟨⟨hc.1, Nat.le_refl _⟩, ⟨Nat.le_refl _, Nat.le_refl _, fun j h1 h2 => absurd h2 (by dsimp only at h1; omega), fun h => absurd h (Nat.lt_irrefl _)⟩, fun _ => rfl⟩, rfl, rfl, hl2⟩
          intro z H' locs' ls hz ih
          obtain ⟨j, kj⟩ := z
          obtain ⟨⟨⟨z1, z2⟩, z3, z4⟩, rfl, rfl, hl⟩ := hz
          dsimp only at z1 z2 z3 z4
          have hl : lv_has ls 6 [(0, .ref h0), (1, .long (rt_ls (rt_ba sr pd ct cg) rt n f kj)), (3, .int (nI j - 1))] := hl
          refine lv_iload_n hx hb d_Md_until_69 rfl (lv_at hl 2 rfl) ?_
          refine lv_aload_n hx hb d_Md_until_70 rfl (lv_at hl 0 rfl) ?_
          refine va_get (D := (dC, dI)) (ci := 3) (v := .int (nI c)) (C := R_Md) (T := F_Md) (N := 14) hx hb hts i_Md hown hK hP 0 rfl rfl 13 (by decide) (hts _ m_215) (fun _ h9 => h9) rfl d_Md_until_71 ?_
          refine lv_icmp_lt (tgt := 135) hx hb d_Md_until_74 (by decide) (fun c_74 => ?_) (fun c_74 => ?_)
          · rw [rt_jlt (by omega) (by have := hc.1; omega)] at c_74
            have hkf : kj = if sr &&& 4 = 0 then n else k := by
              by_cases h4 : sr &&& 4 = 0
              · rw [if_pos h4]; exact z4 h4
              · rw [if_neg h4]
                obtain rfl : j = c := by omega
                exact rt_nxU z3 hk
            refine lv_aload_n hx hb d_Md_until_135 rfl (lv_at hl 0 rfl) ?_
            refine va_get (D := (dC, dI)) (ci := 3) (v := .int rt) (C := R_Md) (T := F_Md) (N := 14) hx hb hts i_Md hown hK hP 0 rfl rfl 1 (by decide) (hts _ m_203) (fun _ h9 => h9) rfl d_Md_until_136 ?_
            refine lv_i2l (v := rt.toInt64) hx hb d_Md_until_139 rfl ?_
            refine lv_lload_n hx hb d_Md_until_140 rfl (lv_at hl 1 rfl) ?_
            refine lv_ladd hx hb d_Md_until_141 ?_
            refine lv_ldc2 hx hb hown (hts _ m_305) d_Md_until_142 ?_
            refine W.lcmp hx hb d_Md_until_145 ?_
            refine lv_if_le (tgt := 153) hx hb d_Md_until_146 (by decide) (fun c_146 => ?_) (fun c_146 => ?_)
            · rw [lg_cmp_le] at c_146
              refine lv_lload_n hx hb d_Md_until_153 rfl (lv_at hl 1 rfl) ?_
              refine lv_l2i (v := (rt_ls (rt_ba sr pd ct cg) rt n f kj).toInt32) hx hb d_Md_until_154 rfl ?_
              refine rt_iret hx hb hr hlocks () ?_ hP hK hD hS d_Md_until_155
              exact (rt_unN hI hk c_9 hkf).1 c_146
            · rw [lg_cmp_le] at c_146
              refine lv_iconst (v := (-1)) hx hb d_Md_until_149 (by decide) ?_
              refine lv_goto (tgt := 155) hx hb d_Md_until_150 (by decide) ?_
              refine rt_iret hx hb hr hlocks () ?_ hP hK hD hS d_Md_until_155
              exact (rt_unN hI hk c_9 hkf).2 c_146
          · rw [rt_jlt (by omega) (by have := hc.1; omega)] at c_74
            refine lv_aload_n hx hb d_Md_until_77 rfl (lv_at hl 0 rfl) ?_
            refine va_get (D := (dC, dI)) (ci := 3) (v := .int sr) (C := R_Md) (T := F_Md) (N := 14) hx hb hts i_Md hown hK hP 0 rfl rfl 7 (by decide) (hts _ m_209) (fun _ h9 => h9) rfl d_Md_until_78 ?_
            refine lv_iconst (v := 4) hx hb d_Md_until_81 (by decide) ?_
            refine lv_iand hx hb d_Md_until_82 ?_
            refine lv_if_eq (tgt := 135) hx hb d_Md_until_83 (by decide) (fun c_83 => ?_) (fun c_83 => ?_)
            · have hkf : kj = if sr &&& 4 = 0 then n else k := by rw [if_pos c_83]; exact z4 c_83
              refine lv_aload_n hx hb d_Md_until_135 rfl (lv_at hl 0 rfl) ?_
              refine va_get (D := (dC, dI)) (ci := 3) (v := .int rt) (C := R_Md) (T := F_Md) (N := 14) hx hb hts i_Md hown hK hP 0 rfl rfl 1 (by decide) (hts _ m_203) (fun _ h9 => h9) rfl d_Md_until_136 ?_
              refine lv_i2l (v := rt.toInt64) hx hb d_Md_until_139 rfl ?_
              refine lv_lload_n hx hb d_Md_until_140 rfl (lv_at hl 1 rfl) ?_
              refine lv_ladd hx hb d_Md_until_141 ?_
              refine lv_ldc2 hx hb hown (hts _ m_305) d_Md_until_142 ?_
              refine W.lcmp hx hb d_Md_until_145 ?_
              refine lv_if_le (tgt := 153) hx hb d_Md_until_146 (by decide) (fun c_146 => ?_) (fun c_146 => ?_)
              · rw [lg_cmp_le] at c_146
                refine lv_lload_n hx hb d_Md_until_153 rfl (lv_at hl 1 rfl) ?_
                refine lv_l2i (v := (rt_ls (rt_ba sr pd ct cg) rt n f kj).toInt32) hx hb d_Md_until_154 rfl ?_
                refine rt_iret hx hb hr hlocks () ?_ hP hK hD hS d_Md_until_155
                exact (rt_unN hI hk c_9 hkf).1 c_146
              · rw [lg_cmp_le] at c_146
                refine lv_iconst (v := (-1)) hx hb d_Md_until_149 (by decide) ?_
                refine lv_goto (tgt := 155) hx hb d_Md_until_150 (by decide) ?_
                refine rt_iret hx hb hr hlocks () ?_ hP hK hD hS d_Md_until_155
                exact (rt_unN hI hk c_9 hkf).2 c_146
            · have ej : nI j - 1 = nI (j - 1) := rt_pm (by omega)
              refine lv_aload_n hx hb d_Md_until_86 rfl (lv_at hl 0 rfl) ?_
              refine va_get (D := (dC, dI)) (ci := 3) (v := .ref h1) (C := R_Md) (T := F_Md) (N := 14) hx hb hts i_Md hown hK hP 0 rfl rfl 10 (by decide) (hts _ m_212) (fun _ h9 => h9) rfl d_Md_until_87 ?_
              refine lv_iload_n hx hb d_Md_until_90 rfl (lv_at hl 2 rfl) ?_
              refine rt_iald hx hb hK hP 1 0 rfl rfl (j - 1) ej (by omega) (by decide) d_Md_until_91 ?_
              refine lv_i2l (v := (f (j - 1)).toInt64) hx hb d_Md_until_92 rfl ?_
              refine lv_aload_n hx hb d_Md_until_93 rfl (lv_at hl 0 rfl) ?_
              refine va_get (D := (dC, dI)) (ci := 3) (v := .int rt) (C := R_Md) (T := F_Md) (N := 14) hx hb hts i_Md hown hK hP 0 rfl rfl 1 (by decide) (hts _ m_203) (fun _ h9 => h9) rfl d_Md_until_94 ?_
              refine lv_i2l (v := rt.toInt64) hx hb d_Md_until_97 rfl ?_
              refine lv_lsub hx hb d_Md_until_98 ?_
              refine lv_lstore (lv' := [(4, .long (((f (j - 1)).toInt64) - rt.toInt64)), (0, .ref h0), (1, .long (rt_ls (rt_ba sr pd ct cg) rt n f kj)), (3, .int (nI j - 1))]) hx hb d_Md_until_99 hl (by decide) rfl (fun ls hl => ?_)
              refine lv_aload_n hx hb d_Md_until_101 rfl (lv_at hl 1 rfl) ?_
              refine va_get (D := (dC, dI)) (ci := 3) (v := .ref h2) (C := R_Md) (T := F_Md) (N := 14) hx hb hts i_Md hown hK hP 0 rfl rfl 11 (by decide) (hts _ m_213) (fun _ h9 => h9) rfl d_Md_until_102 ?_
              refine lv_iload_n hx hb d_Md_until_105 rfl (lv_at hl 3 rfl) ?_
              refine rt_iald hx hb hK hP 2 1 rfl rfl (j - 1) ej (by omega) (by decide) d_Md_until_106 ?_
              refine lv_aload_n hx hb d_Md_until_107 rfl (lv_at hl 1 rfl) ?_
              refine va_get (D := (dC, dI)) (ci := 3) (v := .int mk) (C := R_Md) (T := F_Md) (N := 14) hx hb hts i_Md hown hK hP 0 rfl rfl 6 (by decide) (hts _ m_208) (fun _ h9 => h9) rfl d_Md_until_108 ?_
              refine lv_iand hx hb d_Md_until_111 ?_
              refine lv_if_eq (tgt := 127) hx hb d_Md_until_112 (by decide) (fun c_112 => ?_) (fun c_112 => ?_)
              · refine lv_lload_n hx hb d_Md_until_127 rfl (lv_at hl 2 rfl) ?_
                refine lv_lstore_n (lv' := [(1, .long (rt_ls (rt_ba sr pd ct cg) rt n f kj)), (4, .long (((f (j - 1)).toInt64) - rt.toInt64)), (0, .ref h0), (3, .int (nI j - 1))]) hx hb d_Md_until_128 rfl hl (by decide) rfl (fun ls hl => ?_)
                refine lv_iinc (v := (nI (j - 1) - 1)) (lv' := [(3, .int (nI (j - 1) - 1)), (1, .long (rt_ls (rt_ba sr pd ct cg) rt n f kj)), (4, .long (((f (j - 1)).toInt64) - rt.toInt64)), (0, .ref h0)]) hx hb d_Md_until_129 hl (k := 3) rfl (by rw [ej]; exact rt_dec _) (by decide) rfl (fun ls hl => ?_)
                refine lv_goto (tgt := 69) hx hb d_Md_until_132 (by decide) ?_
                have hl3 : lv_has ls 6 [(0, .ref h0), (1, .long (rt_ls (rt_ba sr pd ct cg) rt n f kj)), (3, .int (nI (j - 1) - 1))] := by
                  have eL : rt_ls (rt_ba sr pd ct cg) rt n f kj = (rt_ls (rt_ba sr pd ct cg) rt n f kj) := rfl
                  rw [eL]
                  exact lv_sub hl [3, 1, 0] rfl
                exact ih (j - 1, kj) _ _ _ (by dsimp only; omega) ⟨⟨⟨by dsimp only; omega, by dsimp only; omega⟩, rt_nxS (by rw [show j - 1 + 1 = j by omega]; exact z3) c_112, fun h => absurd h c_83⟩, rfl, rfl, hl3⟩
              · refine lv_lload hx hb d_Md_until_115 (lv_at hl 0 rfl) ?_
                refine lv_lload_n hx hb d_Md_until_117 rfl (lv_at hl 2 rfl) ?_
                refine W.lcmp hx hb d_Md_until_118 ?_
                refine lv_if_ge (tgt := 127) hx hb d_Md_until_119 (by decide) (fun c_119 => ?_) (fun c_119 => ?_)
                · rw [lg_cmp_ge] at c_119
                  refine lv_lload_n hx hb d_Md_until_127 rfl (lv_at hl 2 rfl) ?_
                  refine lv_lstore_n (lv' := [(1, .long (rt_ls (rt_ba sr pd ct cg) rt n f kj)), (4, .long (((f (j - 1)).toInt64) - rt.toInt64)), (0, .ref h0), (3, .int (nI j - 1))]) hx hb d_Md_until_128 rfl hl (by decide) rfl (fun ls hl => ?_)
                  refine lv_iinc (v := (nI (j - 1) - 1)) (lv' := [(3, .int (nI (j - 1) - 1)), (1, .long (rt_ls (rt_ba sr pd ct cg) rt n f kj)), (4, .long (((f (j - 1)).toInt64) - rt.toInt64)), (0, .ref h0)]) hx hb d_Md_until_129 hl (k := 3) rfl (by rw [ej]; exact rt_dec _) (by decide) rfl (fun ls hl => ?_)
                  refine lv_goto (tgt := 69) hx hb d_Md_until_132 (by decide) ?_
                  have hl3 : lv_has ls 6 [(0, .ref h0), (1, .long (rt_ls (rt_ba sr pd ct cg) rt n f (j - 1))), (3, .int (nI (j - 1) - 1))] := by
                    have eL : rt_ls (rt_ba sr pd ct cg) rt n f (j - 1) = (rt_ls (rt_ba sr pd ct cg) rt n f kj) := (rt_lsA (g := g) (mk := mk) hs (show j - 1 < n by omega) (by rw [show j - 1 + 1 = j by omega]; exact z3) c_119).symm
                    rw [eL]
                    exact lv_sub hl [3, 1, 0] rfl
                  exact ih (j - 1, (j - 1)) _ _ _ (by dsimp only; omega) ⟨⟨⟨by dsimp only; omega, by dsimp only; omega⟩, rt_nxH (by omega) c_112, fun h => absurd h c_83⟩, rfl, rfl, hl3⟩
                · rw [lg_cmp_ge] at c_119
                  refine lv_lload hx hb d_Md_until_122 (lv_at hl 0 rfl) ?_
                  refine lv_goto (tgt := 128) hx hb d_Md_until_124 (by decide) ?_
                  refine lv_lstore_n (lv' := [(1, .long (((f (j - 1)).toInt64) - rt.toInt64)), (4, .long (((f (j - 1)).toInt64) - rt.toInt64)), (0, .ref h0), (3, .int (nI j - 1))]) hx hb d_Md_until_128 rfl hl (by decide) rfl (fun ls hl => ?_)
                  refine lv_iinc (v := (nI (j - 1) - 1)) (lv' := [(3, .int (nI (j - 1) - 1)), (1, .long (((f (j - 1)).toInt64) - rt.toInt64)), (4, .long (((f (j - 1)).toInt64) - rt.toInt64)), (0, .ref h0)]) hx hb d_Md_until_129 hl (k := 3) rfl (by rw [ej]; exact rt_dec _) (by decide) rfl (fun ls hl => ?_)
                  refine lv_goto (tgt := 69) hx hb d_Md_until_132 (by decide) ?_
                  have hl3 : lv_has ls 6 [(0, .ref h0), (1, .long (rt_ls (rt_ba sr pd ct cg) rt n f (j - 1))), (3, .int (nI (j - 1) - 1))] := by
                    have eL : rt_ls (rt_ba sr pd ct cg) rt n f (j - 1) = (((f (j - 1)).toInt64) - rt.toInt64) := (rt_lsB (show j - 1 < n by omega) c_119).symm
                    rw [eL]
                    exact lv_sub hl [3, 1, 0] rfl
                  exact ih (j - 1, (j - 1)) _ _ _ (by dsimp only; omega) ⟨⟨⟨by dsimp only; omega, by dsimp only; omega⟩, rt_nxH (by omega) c_112, fun h => absurd h c_83⟩, rfl, rfl, hl3⟩
  · refine lv_iconst (v := 0) hx hb d_Md_until_12 (by decide) ?_
    refine rt_iret hx hb hr hlocks () ?_ hP hK hD hS d_Md_until_13
    exact rt_un0 hI hk c_9
end
section
/-! THE CLAIM OUT OF ONE WALK OF THE LAW'S BODY. Your part is whole_start (and what it stands on); all else here is the same for every law, but numbers. -/
def R_law : String := "RetiredTimerLaw"
def lw_P (b : Addr) (xs : List Int32) (args : Array Value) (s : State) : Prop := args = #[.ref b] ∧ s.IntsAt b xs ∧ xs.length ≤ 2048 ∧ (Jvm.Cond.and given_1 narrow_1).before args s = true
def lw_Q (_ : Array Value) (s : State) (o : Outcome) (t : State) : Prop := o = .returned (some (.int 1)) ∧ Framed s o t [] 8 156
def lw_Z (below : List Frame) (a : Array Value) (s : State) : State → Prop := fun t => ∃ o, t.status = .running ∧ Ended t below o ∧ lw_Q a s o t
/-- the law's own end, with 1 on the stack, nothing written that was there before, its room as the claim has it -/
theorem lw_ret {p : Program} {l : Launch} {e : Env} {s : State} {m : MethodId} {below : List Frame} {meth : Method} {c : Code} {b : Nat} (hx : p.tables.exec = Jvm.exec) (hb : c.code = code) (hr : meth.sig.returnType = ret) (hlocks : meth.locks = false) {pc : Nat} {H : Heap} {ls : Array Slot} (hdg : decode code pc = .ok (.ireturn, 1)) : W p l e room_1 s m #[Value.ref b] below meth c H [] 8 156 (lw_Z below #[Value.ref b] s) (F0 m pc ls [.int 1]) := by
  intro T hT X
  obtain ⟨fs, hret, hrun, hended, hW, hframe⟩ := X.leave (v := some (.int 1)) (hlocks := hlocks) (fun h => by rw [hr] at h; cases h)
  have hmeth' : T.vm.method? m = some meth := X.method'
  refine ⟨T.setFrames fs, ?_, .returned (some (.int 1)), hrun, hended, rfl, ⟨_, rfl⟩, hW, hframe⟩
  jvm_step X.here [X.here.top, hx, hb, hdg, hmeth', hr, ret, narrow_b1]
  (try refine ⟨rfl, ?_⟩); (try refine ⟨rfl, ?_⟩)
  first | (intro acts; rw [hret _ acts rfl rfl rfl]) | rw [hret _ _ rfl rfl rfl]
  exact Steps.refl _
/-- what holds at the law's entry: the machine, the code, the tables' words (any of lw_tbl by 'hts w (by decide +kernel)'), the script of L ints xs at the cell b, what the Statement gives of the start (any of its parts by flat_of_before) -/
def lw_At (p : Program) (s : State) (m : MethodId) (meth : Method) (c : Code) (b L : Nat) (xs : Nat → Int32) : Prop :=
  p.tables.exec = Jvm.exec ∧ c.code = code ∧ meth.sig.returnType = ret ∧ c.maxLocals = 4 ∧ s.vm.findClass R_law = some m.cls ∧ (∀ w ∈ lw_tbl, w.before #[Value.ref b] s = true) ∧ va_X b L xs s s.heap ∧ b < s.heap.size ∧ meth.locks = false ∧ (Jvm.Cond.and given_1 narrow_1).before #[Value.ref b] s = true
end
section
theorem rt_N_of {args : Array Value} {s : State} (hts : ∀ w ∈ lw_tbl, w.before args s = true) : rt_N s := by
  intro w hw
  unfold rt_nest at hw
  simp only [List.mem_cons, List.not_mem_nil, or_false] at hw
  rcases hw with rfl | rfl | rfl | rfl | rfl | rfl | rfl | rfl | rfl
  · exact va_Nw.of rfl (hts _ (List.mem_of_getElem? (i := 25) rfl))
  · exact va_Nw.of rfl (hts _ (List.mem_of_getElem? (i := 48) rfl))
  · exact va_Nw.of rfl (hts _ (List.mem_of_getElem? (i := 30) rfl))
  · exact va_Nw.of rfl (hts _ (List.mem_of_getElem? (i := 32) rfl))
  · exact va_Nw.of rfl (hts _ (List.mem_of_getElem? (i := 34) rfl))
  · exact va_Nw.of rfl (hts _ (List.mem_of_getElem? (i := 36) rfl))
  · exact va_Nw.of rfl (hts _ (List.mem_of_getElem? (i := 53) rfl))
  · exact va_Nw.of rfl (hts _ (List.mem_of_getElem? (i := 55) rfl))
  · exact va_Nw.of rfl (hts _ (List.mem_of_getElem? (i := 57) rfl))
section RtScript
variable {p : Program} {l : Launch} {e : Env} {R : Room} {s : State} {m : MethodId} {args : Array Value} {below : List Frame} {meth : Method} {c : Code} {H : Heap} {locs : List Loc} {cells slots : Nat} {Q : State → Prop}
variable {cc : ByteArray} {pc : Nat} {ls : Array Slot} {rest : List Value} {A : Nat → Prop} {H0 : Heap}
theorem rt_sld (hexec : p.tables.exec = Jvm.exec) (hb : c.code = cc) {b L : Nat} {xs : Nat → Int32} (hX : va_X b L xs s H0) (hbl : b < H0.size) (hbA : ¬ A b) (hS : va_S A H0 H locs) {i : Int32} (k : Nat) (hi : i = nI k) (hk : k < L) (hL : L < 2 ^ 31) (hdg : decode cc pc = .ok (.iaload, 1))
    (kk : W p l e R s m args below meth c H locs cells slots Q (F0 m (pc + 1) ls (.int (xs k) :: rest))) : W p l e R s m args below meth c H locs cells slots Q (F0 m pc ls (.int i :: .ref b :: rest)) := by
  subst hi
  refine va_sld hexec hb hX hbl hbA hS (vp_in_nI hk hL) hdg ?_
  rw [nI_clamp (by omega)]
  exact kk
end RtScript
theorem rt_lend {i L : Nat} (hi : i ≤ L) (hL : L ≤ 2048) : nI L - 4 < nI i ↔ L < i + 4 := by
  rw [Int32.lt_iff_toInt_lt, Int32.toInt_sub, nI_toInt (by omega), nI_toInt (by omega), show (4 : Int32).toInt = 4 from rfl, Int.bmod_eq_of_le (by omega) (by omega)]
  omega
theorem rt_I_en {rt pd cg pn a : Int32} {n c c2 : Nat} {f : Nat → Int32} (hI : rt_I rt pd cg pn n f c) (h : rt_cut (rt_ef f n a) (rt_en f n a) rt c2) : rt_I rt pd cg pn (rt_en f n a) (rt_ef f n a) c2 := by
  obtain ⟨h1, h2, h3, h4, h5, h6, h7⟩ := hI
  refine ⟨h1, h2, h3, h4, ?_, ?_, h⟩
  · unfold rt_en
    by_cases ho : rt_ok f n a = true
    · rw [if_pos ho]
      have := (rt_okd ho).2.1
      omega
    · rw [if_neg ho]; exact h5
  · unfold rt_en rt_ef
    by_cases ho : rt_ok f n a = true
    · rw [if_pos ho, if_pos ho]; exact rt_so_in h6 ho
    · rw [if_neg ho, if_neg ho]; exact h6
theorem rt_I_st {sr pd ct cg pn rt mk a : Int32} {n : Nat} {f g : Nat → Int32} {c k c2 : Nat} (hI : rt_I rt pd cg pn n f c) (hk : rt_nx g mk n c k) (h : rt_cut f n (rt_s1 rt a (rt_w sr pd ct cg pn rt mk n f g c k)) c2) :
    rt_I (rt_s1 rt a (rt_w sr pd ct cg pn rt mk n f g c k)) pd cg (rt_s3 rt a pd ct cg pn (rt_w sr pd ct cg pn rt mk n f g c k)) n f c2 := by
  obtain ⟨h1, h2, h3, h4, h5, h6, h7⟩ := id hI
  refine ⟨?_, h2, h3, ?_, h5, h6, h⟩
  · unfold rt_s1
    by_cases hb : rt_bad rt a = true
    · rw [if_pos hb]; exact h1
    · rw [if_neg hb]
      have hb2 : ¬ (a < 1 ∨ 20000 < a ∨ ¬ rt.toInt64 + a.toInt64 ≤ 2147483647) := fun q => hb (decide_eq_true q)
      obtain ⟨r, N, K, e1, e2, e3, e4, e5, e6, -⟩ := rt_plan (sr := sr) (ct := ct) (mk := mk) (g := g) hI hk (fun q => hb2 (Or.inl q)) (fun q => hb2 (Or.inr (Or.inl q))) (Decidable.byContradiction fun q => hb2 (Or.inr (Or.inr q)))
      rw [e6, e1, nI_add]
      exact nI_pos' (by omega)
  · unfold rt_s3 rt_lp
    by_cases hb : rt_bad rt a = true
    · rw [if_pos hb]; exact h4
    · rw [if_neg hb]
      by_cases hc : cg = 0
      · rw [if_pos hc]; exact h4
      · rw [if_neg hc]
        by_cases hq : rt_wy pd ct ≤ (rt_cn a (rt_w sr pd ct cg pn rt mk n f g c k)).toInt64
        · rw [if_pos hq]; exact Or.inr rfl
        · rw [if_neg hq]; exact h4
theorem rt_I_tm {rt pd cg pn : Int32} {n c : Nat} {f : Nat → Int32} (hI : rt_I rt pd cg pn n f c) (a : Int32) {b1 b2 : Int32} (hb1 : b1 = 0 ∨ b1 = 1) (hb2 : b2 = 0 ∨ b2 = 1) : rt_I rt (a &&& 268435455) b1 b2 n f c := by
  obtain ⟨h1, h2, h3, h4, h5, h6, h7⟩ := hI
  obtain ⟨j, hj, e⟩ := pk_andE a (m := 268435455) 28 (by decide)
  refine ⟨h1, ⟨?_, ?_⟩, hb1, hb2, h5, h6, h7⟩
  · rw [e]; exact nI_pos' (by omega)
  · rw [e, show (268435456 : Int32) = nI 268435456 from rfl, nI_ltI (by omega) (by decide)]; omega
theorem rt_I_re (f : Nat → Int32) : rt_I 0 0 0 0 0 f 0 := ⟨by decide, ⟨by decide, by decide⟩, Or.inl rfl, Or.inl rfl, by decide, fun j k _ h => absurd h (Nat.not_lt_zero _), Nat.le_refl _, fun k h => absurd h (Nat.not_lt_zero _), fun k _ h => absurd h (Nat.not_lt_zero _)⟩
end
section
set_option maxHeartbeats 8000000 in
set_option maxRecDepth 100000 in
/-- THE LAW'S LOOP: at its head both sides hold the same picture -/
theorem law_loop {p : Program} {l : Launch} {e : Env} {s : State} {m : MethodId} {below : List Frame} {meth : Method} {c_ : Code} {dC : Nat → ClassId} {dI : Nat → Nat → Nat} {b L : Nat} {xs : Nat → Int32} {A : Nat → Prop} {q0 x1 x2 x3 x4 m0 m1 m2 : Nat} {cC cV cE cF : ClassId} (hL : L ≤ 2048) (C0 : lw_At p s m meth c_ b L xs) (hA : ∀ q, s.heap.size ≤ q → A q) (hA2 : ∀ q, A q → s.heap.size ≤ q) (hbA : ¬ A b) (hK : va_K (dC, dI) classes [(cC, .int), (cV, .int), (cE, .int), (cF, .int)] s) :
    ∀ (t i : Nat), i ≤ L → L < i + t → ∀ (rt mk sr sv tk pd ct cg pn : Int32) (n c : Nat) (f g : Nat → Int32), rt_I rt pd cg pn n f c → ∀ (H : Heap) (locs : List Loc) (ls : Array Slot), va_P (dC, dI) classes [(q0, .inr (2, [.ref x1, .ref x2, .int rt, .int mk, .int sr, .int sv, .int tk])), (x1, .inr (0, [.int pd, .int ct, .int cg, .int pn])), (x2, .inr (1, [.ref x3, .ref x4, .int (nI n)])), (x3, .inl (cC, 32, .inl f)), (x4, .inl (cV, 32, .inl g)), (m0, .inr (3, [.int 0, .int rt, .int ct, .int pd, .int cg, .int pn, .int mk, .int sr, .int sv, .int tk, .ref m1, .ref m2, .int (nI n), .int (nI c)])), (m1, .inl (cE, 32, .inl f)), (m2, .inl (cF, 32, .inl g))] H → va_D A [(q0, .inr (2, [.ref x1, .ref x2, .int rt, .int mk, .int sr, .int sv, .int tk])), (x1, .inr (0, [.int pd, .int ct, .int cg, .int pn])), (x2, .inr (1, [.ref x3, .ref x4, .int (nI n)])), (x3, .inl (cC, 32, .inl f)), (x4, .inl (cV, 32, .inl g)), (m0, .inr (3, [.int 0, .int rt, .int ct, .int pd, .int cg, .int pn, .int mk, .int sr, .int sv, .int tk, .ref m1, .ref m2, .int (nI n), .int (nI c)])), (m1, .inl (cE, 32, .inl f)), (m2, .inl (cF, 32, .inl g))] → va_S A s.heap H locs → lv_has ls 4 [(0, .ref b), (1, .ref q0), (2, .ref m0), (3, .int (nI i))] → W p l e room_1 s m #[Value.ref b] below meth c_ H locs 8 156 (lw_Z below #[Value.ref b] s) (F0 m 18 ls []) := by
  obtain ⟨hx, hb, hr, hml, hown, hts0, hX, hbl, hlocks, hgv⟩ := C0
  have hts : ∀ w ∈ lw_rest, w.before #[Value.ref b] s = true := fun w h => hts0 w (lw_sub w h)
  have hN : rt_N s := rt_N_of hts0
  intro t
  induction t with
  | zero =>
    intro i h1 h2
    exact absurd h2 (by omega)
  | succ t ih =>
    intro i hi hit rt mk sr sv tk pd ct cg pn n c f g hI H locs ls hP hD hS hl
    obtain ⟨hI0, hIp, hIg, hIn, hn, hs, hc⟩ := id hI
    obtain ⟨k, hk⟩ := rt_nx_ex (g := g) (mk := mk) hc.1
    refine lv_iload_n hx hb d_law_18 rfl (lv_at hl 3 rfl) ?_
    refine lv_aload_n hx hb d_law_19 rfl (lv_at hl 0 rfl) ?_
    refine va_slen hx hb hX hbl hbA hS d_law_20 ?_
    refine rt_topi (nI L) (rfl) ?_
    refine lv_iconst (v := 4) hx hb d_law_21 (by decide) ?_
    refine lv_isub hx hb d_law_22 ?_
    refine lv_icmp_gt (tgt := 441) hx hb d_law_23 (by decide) (fun c_23 => ?_) (fun c_23 => ?_)
    · rw [rt_lend hi hL] at c_23
      refine lv_iconst (v := 1) hx hb d_law_441 (by decide) ?_
      refine va_forget (fun q hq => hA2 _ (hS.2.2 q hq)) ?_
      exact lw_ret hx hb hr hlocks d_law_442
    · rw [rt_lend hi hL] at c_23
      refine lv_aload_n hx hb d_law_26 rfl (lv_at hl 0 rfl) ?_
      refine lv_iload_n hx hb d_law_27 rfl (lv_at hl 3 rfl) ?_
      refine rt_sld hx hb hX hbl hbA hS i rfl (by omega) (by omega) d_law_28 ?_
      refine lv_bipush (v := 15) hx hb d_law_29 (by decide) ?_
      refine lv_iand hx hb d_law_31 ?_
      by_cases e_0 : ((xs i) &&& 15) = 0
      · refine rt_topi 0 e_0 ?_
        refine lv_tableIn (tgt := 100) hx hb d_law_32 (by decide) (by decide) rfl (by decide) ?_
        refine lv_aload_n hx hb d_law_100 rfl (lv_at hl 1 rfl) ?_
        refine lv_aload_n hx hb d_law_101 rfl (lv_at hl 0 rfl) ?_
        refine lv_iload_n hx hb d_law_102 rfl (lv_at hl 3 rfl) ?_
        refine lv_iconst (v := 1) hx hb d_law_103 (by decide) ?_
        refine lv_iadd hx hb d_law_104 ?_
        refine rt_topi (nI (i + 1)) (nI_add i 1) ?_
        refine rt_sld hx hb hX hbl hbA hS (i + 1) rfl (by omega) (by omega) d_law_105 ?_
        refine lv_aload_n hx hb d_law_106 rfl (lv_at hl 0 rfl) ?_
        refine lv_iload_n hx hb d_law_107 rfl (lv_at hl 3 rfl) ?_
        refine lv_iconst (v := 2) hx hb d_law_108 (by decide) ?_
        refine lv_iadd hx hb d_law_109 ?_
        refine rt_topi (nI (i + 2)) (nI_add i 2) ?_
        refine rt_sld hx hb hX hbl hbA hS (i + 2) rfl (by omega) (by omega) d_law_110 ?_
        refine rt_gi (wr := [(m0, .inr (3, [.int 0, .int rt, .int ct, .int pd, .int cg, .int pn, .int mk, .int sr, .int sv, .int tk, .ref m1, .ref m2, .int (nI n), .int (nI c)])), (m1, .inl (cE, 32, .inl f)), (m2, .inl (cF, 32, .inl g))]) (rt_runV (rest := []) ⟨hx, hb, hml, hown, hts⟩ (c_Rt_entry l dC dI q0 x1 x2 x3 x4 cC cV H.size rt mk sr sv tk pd ct cg pn n f g (xs (i + 1)) (xs (i + 2)) hn) (rt_gV m_97 m_98 m_99 m_10 m_100) hd_Rt_entry ⟨Nat.le_of_ble_eq_true rfl, Nat.le_of_ble_eq_true rfl, rfl, rfl⟩ hP hK hD hN [0, 1, 2, 3, 4] [0, 1] (by decide) rfl rfl rfl rfl rfl hl.1 rfl (Nat.le_of_ble_eq_true rfl) d_law_111 ⟨Nat.le_of_ble_eq_true rfl, Nat.le_of_ble_eq_true rfl⟩) hP hD hS hA [0, 1, 2, 3, 4] [5, 6, 7] rfl rfl (by decide) (by decide) (fun r_111 u_111 H locs hw_111 hP hD hS _ => ?_)
        obtain ⟨n_111, f_111, g_111⟩ := u_111
        try dsimp only at hw_111
        obtain ⟨w0_111, w1_111, w2_111, w3_111⟩ := hw_111
        obtain rfl := w0_111.symm
        obtain rfl := w1_111.symm
        obtain rfl := w2_111.symm
        obtain rfl := w3_111.symm
        have hP : va_P (dC, dI) classes [(m0, .inr (3, [.int 0, .int rt, .int ct, .int pd, .int cg, .int pn, .int mk, .int sr, .int sv, .int tk, .ref m1, .ref m2, .int (nI n), .int (nI c)])), (m1, .inl (cE, 32, .inl f)), (m2, .inl (cF, 32, .inl g)), (q0, .inr (2, [.ref x1, .ref x2, .int rt, .int mk, .int sr, .int sv, .int tk])), (x1, .inr (0, [.int pd, .int ct, .int cg, .int pn])), (x2, .inr (1, [.ref x3, .ref x4, .int (nI (rt_en f n (xs (i + 1))))])), (x3, .inl (cC, 32, .inl (rt_ef f n (xs (i + 1))))), (x4, .inl (cV, 32, .inl (rt_eg f g n (xs (i + 1)) (xs (i + 2)))))] H := hP
        have hD : va_D A [(m0, .inr (3, [.int 0, .int rt, .int ct, .int pd, .int cg, .int pn, .int mk, .int sr, .int sv, .int tk, .ref m1, .ref m2, .int (nI n), .int (nI c)])), (m1, .inl (cE, 32, .inl f)), (m2, .inl (cF, 32, .inl g)), (q0, .inr (2, [.ref x1, .ref x2, .int rt, .int mk, .int sr, .int sv, .int tk])), (x1, .inr (0, [.int pd, .int ct, .int cg, .int pn])), (x2, .inr (1, [.ref x3, .ref x4, .int (nI (rt_en f n (xs (i + 1))))])), (x3, .inl (cC, 32, .inl (rt_ef f n (xs (i + 1))))), (x4, .inl (cV, 32, .inl (rt_eg f g n (xs (i + 1)) (xs (i + 2)))))] := hD
        refine lv_aload_n hx hb d_law_114 rfl (lv_at hl 2 rfl) ?_
        refine lv_aload_n hx hb d_law_115 rfl (lv_at hl 0 rfl) ?_
        refine lv_iload_n hx hb d_law_116 rfl (lv_at hl 3 rfl) ?_
        refine lv_iconst (v := 1) hx hb d_law_117 (by decide) ?_
        refine lv_iadd hx hb d_law_118 ?_
        refine rt_topi (nI (i + 1)) (nI_add i 1) ?_
        refine rt_sld hx hb hX hbl hbA hS (i + 1) rfl (by omega) (by omega) d_law_119 ?_
        refine lv_aload_n hx hb d_law_120 rfl (lv_at hl 0 rfl) ?_
        refine lv_iload_n hx hb d_law_121 rfl (lv_at hl 3 rfl) ?_
        refine lv_iconst (v := 2) hx hb d_law_122 (by decide) ?_
        refine lv_iadd hx hb d_law_123 ?_
        refine rt_topi (nI (i + 2)) (nI_add i 2) ?_
        refine rt_sld hx hb hX hbl hbA hS (i + 2) rfl (by omega) (by omega) d_law_124 ?_
        refine rt_gi (wr := [(q0, .inr (2, [.ref x1, .ref x2, .int rt, .int mk, .int sr, .int sv, .int tk])), (x1, .inr (0, [.int pd, .int ct, .int cg, .int pn])), (x2, .inr (1, [.ref x3, .ref x4, .int (nI (rt_en f n (xs (i + 1))))])), (x3, .inl (cC, 32, .inl (rt_ef f n (xs (i + 1))))), (x4, .inl (cV, 32, .inl (rt_eg f g n (xs (i + 1)) (xs (i + 2)))))]) (rt_runV (rest := [.int (rt_er f n (xs (i + 1)))]) ⟨hx, hb, hml, hown, hts⟩ (c_Md_entry l dC dI m0 m1 m2 cE cF H.size rt ct pd cg pn mk sr sv tk n c f g (xs (i + 1)) (xs (i + 2)) hn hs hc) (rt_gV m_245 m_246 m_247 m_13 m_248) hd_Md_entry ⟨Nat.le_of_ble_eq_true rfl, Nat.le_of_ble_eq_true rfl, rfl, rfl⟩ hP hK hD hN [0, 1, 2] [2, 3] (by decide) rfl rfl rfl rfl rfl hl.1 rfl (Nat.le_of_ble_eq_true rfl) d_law_125 ⟨Nat.le_of_ble_eq_true rfl, Nat.le_of_ble_eq_true rfl⟩) hP hD hS hA [0, 1, 2] [3, 4, 5, 6, 7] rfl rfl (by decide) (by decide) (fun r_125 u_125 H locs hw_125 hP hD hS _ => ?_)
        obtain ⟨n_125, f_125, g_125, c_125⟩ := u_125
        try dsimp only at hw_125
        obtain ⟨w0_125, w1_125, w2_125, w3_125, h0_125⟩ := hw_125
        obtain rfl := w0_125.symm
        obtain rfl := w1_125.symm
        obtain rfl := w2_125.symm
        obtain rfl := w3_125.symm
        have hP : va_P (dC, dI) classes [(q0, .inr (2, [.ref x1, .ref x2, .int rt, .int mk, .int sr, .int sv, .int tk])), (x1, .inr (0, [.int pd, .int ct, .int cg, .int pn])), (x2, .inr (1, [.ref x3, .ref x4, .int (nI (rt_en f n (xs (i + 1))))])), (x3, .inl (cC, 32, .inl (rt_ef f n (xs (i + 1))))), (x4, .inl (cV, 32, .inl (rt_eg f g n (xs (i + 1)) (xs (i + 2))))), (m0, .inr (3, [.int 0, .int rt, .int ct, .int pd, .int cg, .int pn, .int mk, .int sr, .int sv, .int tk, .ref m1, .ref m2, .int (nI (rt_en f n (xs (i + 1)))), .int (nI c_125)])), (m1, .inl (cE, 32, .inl (rt_ef f n (xs (i + 1))))), (m2, .inl (cF, 32, .inl (rt_eg f g n (xs (i + 1)) (xs (i + 2)))))] H := hP
        have hD : va_D A [(q0, .inr (2, [.ref x1, .ref x2, .int rt, .int mk, .int sr, .int sv, .int tk])), (x1, .inr (0, [.int pd, .int ct, .int cg, .int pn])), (x2, .inr (1, [.ref x3, .ref x4, .int (nI (rt_en f n (xs (i + 1))))])), (x3, .inl (cC, 32, .inl (rt_ef f n (xs (i + 1))))), (x4, .inl (cV, 32, .inl (rt_eg f g n (xs (i + 1)) (xs (i + 2))))), (m0, .inr (3, [.int 0, .int rt, .int ct, .int pd, .int cg, .int pn, .int mk, .int sr, .int sv, .int tk, .ref m1, .ref m2, .int (nI (rt_en f n (xs (i + 1)))), .int (nI c_125)])), (m1, .inl (cE, 32, .inl (rt_ef f n (xs (i + 1))))), (m2, .inl (cF, 32, .inl (rt_eg f g n (xs (i + 1)) (xs (i + 2)))))] := hD
        refine lv_icmp_eq (tgt := 435) hx hb d_law_128 (by decide) (fun c_128 => ?_) (fun c_128 => ?_)
        · refine lv_iinc (v := (nI (i + 4))) (lv' := [(3, .int (nI (i + 4))), (0, .ref b), (1, .ref q0), (2, .ref m0)]) hx hb d_law_435 hl (k := 3) rfl (nI_add i 4) (by decide) rfl (fun ls hl => ?_)
          refine lv_goto (tgt := 18) hx hb d_law_438 (by decide) ?_
          exact ih (i + 4) (by omega) (by omega) rt mk sr sv tk pd ct cg pn (rt_en f n (xs (i + 1))) c_125 (rt_ef f n (xs (i + 1))) (rt_eg f g n (xs (i + 1)) (xs (i + 2))) (rt_I_en hI h0_125) _ _ _ hP hD hS (lv_sub hl [1, 2, 3, 0] rfl)
        · exact absurd rfl c_128
      · skip
        by_cases e_1 : ((xs i) &&& 15) = 1
        · refine rt_topi 1 e_1 ?_
          refine lv_tableIn (tgt := 133) hx hb d_law_32 (by decide) (by decide) rfl (by decide) ?_
          refine lv_aload_n hx hb d_law_133 rfl (lv_at hl 1 rfl) ?_
          refine lv_aload_n hx hb d_law_134 rfl (lv_at hl 0 rfl) ?_
          refine lv_iload_n hx hb d_law_135 rfl (lv_at hl 3 rfl) ?_
          refine lv_iconst (v := 1) hx hb d_law_136 (by decide) ?_
          refine lv_iadd hx hb d_law_137 ?_
          refine rt_topi (nI (i + 1)) (nI_add i 1) ?_
          refine rt_sld hx hb hX hbl hbA hS (i + 1) rfl (by omega) (by omega) d_law_138 ?_
          refine rt_gi (wr := [(m0, .inr (3, [.int 0, .int rt, .int ct, .int pd, .int cg, .int pn, .int mk, .int sr, .int sv, .int tk, .ref m1, .ref m2, .int (nI n), .int (nI c)])), (m1, .inl (cE, 32, .inl f)), (m2, .inl (cF, 32, .inl g))]) (rt_runV (rest := []) ⟨hx, hb, hml, hown, hts⟩ (c_Rt_steps l dC dI q0 x1 x2 x3 x4 cC cV H.size rt mk sr sv tk pd ct cg pn n f g (xs (i + 1)) c k hn hc hk) (rt_gV m_105 m_106 m_107 m_10 m_108) hd_Rt_steps ⟨Nat.le_of_ble_eq_true rfl, Nat.le_of_ble_eq_true rfl, rfl, rfl⟩ hP hK hD hN [0, 1, 2, 3, 4] [0, 1] (by decide) rfl rfl rfl rfl rfl hl.1 rfl (Nat.le_of_ble_eq_true rfl) d_law_139 ⟨Nat.le_of_ble_eq_true rfl, Nat.le_of_ble_eq_true rfl⟩) hP hD hS hA [0, 1, 2, 3, 4] [5, 6, 7] rfl rfl (by decide) (by decide) (fun r_139 u_139 H locs hw_139 hP hD hS _ => ?_)
          obtain ⟨rt_139, ct_139, pn_139⟩ := u_139
          try dsimp only at hw_139
          obtain ⟨w0_139, w1_139, w2_139, w3_139⟩ := hw_139
          obtain rfl := w0_139.symm
          obtain rfl := w1_139.symm
          obtain rfl := w2_139.symm
          obtain rfl := w3_139.symm
          have hP : va_P (dC, dI) classes [(m0, .inr (3, [.int 0, .int rt, .int ct, .int pd, .int cg, .int pn, .int mk, .int sr, .int sv, .int tk, .ref m1, .ref m2, .int (nI n), .int (nI c)])), (m1, .inl (cE, 32, .inl f)), (m2, .inl (cF, 32, .inl g)), (q0, .inr (2, [.ref x1, .ref x2, .int (rt_s1 rt (xs (i + 1)) (rt_w sr pd ct cg pn rt mk n f g c k)), .int mk, .int sr, .int sv, .int tk])), (x1, .inr (0, [.int pd, .int (rt_s2 rt (xs (i + 1)) pd ct cg (rt_w sr pd ct cg pn rt mk n f g c k)), .int cg, .int (rt_s3 rt (xs (i + 1)) pd ct cg pn (rt_w sr pd ct cg pn rt mk n f g c k))])), (x2, .inr (1, [.ref x3, .ref x4, .int (nI n)])), (x3, .inl (cC, 32, .inl f)), (x4, .inl (cV, 32, .inl g))] H := hP
          have hD : va_D A [(m0, .inr (3, [.int 0, .int rt, .int ct, .int pd, .int cg, .int pn, .int mk, .int sr, .int sv, .int tk, .ref m1, .ref m2, .int (nI n), .int (nI c)])), (m1, .inl (cE, 32, .inl f)), (m2, .inl (cF, 32, .inl g)), (q0, .inr (2, [.ref x1, .ref x2, .int (rt_s1 rt (xs (i + 1)) (rt_w sr pd ct cg pn rt mk n f g c k)), .int mk, .int sr, .int sv, .int tk])), (x1, .inr (0, [.int pd, .int (rt_s2 rt (xs (i + 1)) pd ct cg (rt_w sr pd ct cg pn rt mk n f g c k)), .int cg, .int (rt_s3 rt (xs (i + 1)) pd ct cg pn (rt_w sr pd ct cg pn rt mk n f g c k))])), (x2, .inr (1, [.ref x3, .ref x4, .int (nI n)])), (x3, .inl (cC, 32, .inl f)), (x4, .inl (cV, 32, .inl g))] := hD
          refine lv_aload_n hx hb d_law_142 rfl (lv_at hl 2 rfl) ?_
          refine lv_aload_n hx hb d_law_143 rfl (lv_at hl 0 rfl) ?_
          refine lv_iload_n hx hb d_law_144 rfl (lv_at hl 3 rfl) ?_
          refine lv_iconst (v := 1) hx hb d_law_145 (by decide) ?_
          refine lv_iadd hx hb d_law_146 ?_
          refine rt_topi (nI (i + 1)) (nI_add i 1) ?_
          refine rt_sld hx hb hX hbl hbA hS (i + 1) rfl (by omega) (by omega) d_law_147 ?_
          refine rt_gi (wr := [(q0, .inr (2, [.ref x1, .ref x2, .int (rt_s1 rt (xs (i + 1)) (rt_w sr pd ct cg pn rt mk n f g c k)), .int mk, .int sr, .int sv, .int tk])), (x1, .inr (0, [.int pd, .int (rt_s2 rt (xs (i + 1)) pd ct cg (rt_w sr pd ct cg pn rt mk n f g c k)), .int cg, .int (rt_s3 rt (xs (i + 1)) pd ct cg pn (rt_w sr pd ct cg pn rt mk n f g c k))])), (x2, .inr (1, [.ref x3, .ref x4, .int (nI n)])), (x3, .inl (cC, 32, .inl f)), (x4, .inl (cV, 32, .inl g))]) (rt_runV (rest := [.int (rt_s0 rt (xs (i + 1)) (rt_w sr pd ct cg pn rt mk n f g c k))]) ⟨hx, hb, hml, hown, hts⟩ (c_Md_steps l dC dI m0 m1 m2 cE cF H.size rt ct pd cg pn mk sr sv tk n c f g (xs (i + 1)) k hI hk) (rt_gV m_253 m_254 m_255 m_13 m_256) hd_Md_steps ⟨Nat.le_of_ble_eq_true rfl, Nat.le_of_ble_eq_true rfl, rfl, rfl⟩ hP hK hD hN [0, 1, 2] [2, 3] (by decide) rfl rfl rfl rfl rfl hl.1 rfl (Nat.le_of_ble_eq_true rfl) d_law_148 ⟨Nat.le_of_ble_eq_true rfl, Nat.le_of_ble_eq_true rfl⟩) hP hD hS hA [0, 1, 2] [3, 4, 5, 6, 7] rfl rfl (by decide) (by decide) (fun r_148 u_148 H locs hw_148 hP hD hS _ => ?_)
          obtain ⟨rt_148, ct_148, pn_148, c_148⟩ := u_148
          try dsimp only at hw_148
          obtain ⟨w0_148, w1_148, w2_148, w3_148, h0_148⟩ := hw_148
          obtain rfl := w0_148.symm
          obtain rfl := w1_148.symm
          obtain rfl := w2_148.symm
          obtain rfl := w3_148.symm
          have hP : va_P (dC, dI) classes [(q0, .inr (2, [.ref x1, .ref x2, .int (rt_s1 rt (xs (i + 1)) (rt_w sr pd ct cg pn rt mk n f g c k)), .int mk, .int sr, .int sv, .int tk])), (x1, .inr (0, [.int pd, .int (rt_s2 rt (xs (i + 1)) pd ct cg (rt_w sr pd ct cg pn rt mk n f g c k)), .int cg, .int (rt_s3 rt (xs (i + 1)) pd ct cg pn (rt_w sr pd ct cg pn rt mk n f g c k))])), (x2, .inr (1, [.ref x3, .ref x4, .int (nI n)])), (x3, .inl (cC, 32, .inl f)), (x4, .inl (cV, 32, .inl g)), (m0, .inr (3, [.int 0, .int (rt_s1 rt (xs (i + 1)) (rt_w sr pd ct cg pn rt mk n f g c k)), .int (rt_s2 rt (xs (i + 1)) pd ct cg (rt_w sr pd ct cg pn rt mk n f g c k)), .int pd, .int cg, .int (rt_s3 rt (xs (i + 1)) pd ct cg pn (rt_w sr pd ct cg pn rt mk n f g c k)), .int mk, .int sr, .int sv, .int tk, .ref m1, .ref m2, .int (nI n), .int (nI c_148)])), (m1, .inl (cE, 32, .inl f)), (m2, .inl (cF, 32, .inl g))] H := hP
          have hD : va_D A [(q0, .inr (2, [.ref x1, .ref x2, .int (rt_s1 rt (xs (i + 1)) (rt_w sr pd ct cg pn rt mk n f g c k)), .int mk, .int sr, .int sv, .int tk])), (x1, .inr (0, [.int pd, .int (rt_s2 rt (xs (i + 1)) pd ct cg (rt_w sr pd ct cg pn rt mk n f g c k)), .int cg, .int (rt_s3 rt (xs (i + 1)) pd ct cg pn (rt_w sr pd ct cg pn rt mk n f g c k))])), (x2, .inr (1, [.ref x3, .ref x4, .int (nI n)])), (x3, .inl (cC, 32, .inl f)), (x4, .inl (cV, 32, .inl g)), (m0, .inr (3, [.int 0, .int (rt_s1 rt (xs (i + 1)) (rt_w sr pd ct cg pn rt mk n f g c k)), .int (rt_s2 rt (xs (i + 1)) pd ct cg (rt_w sr pd ct cg pn rt mk n f g c k)), .int pd, .int cg, .int (rt_s3 rt (xs (i + 1)) pd ct cg pn (rt_w sr pd ct cg pn rt mk n f g c k)), .int mk, .int sr, .int sv, .int tk, .ref m1, .ref m2, .int (nI n), .int (nI c_148)])), (m1, .inl (cE, 32, .inl f)), (m2, .inl (cF, 32, .inl g))] := hD
          refine lv_icmp_eq (tgt := 435) hx hb d_law_151 (by decide) (fun c_151 => ?_) (fun c_151 => ?_)
          · refine lv_iinc (v := (nI (i + 4))) (lv' := [(3, .int (nI (i + 4))), (0, .ref b), (1, .ref q0), (2, .ref m0)]) hx hb d_law_435 hl (k := 3) rfl (nI_add i 4) (by decide) rfl (fun ls hl => ?_)
            refine lv_goto (tgt := 18) hx hb d_law_438 (by decide) ?_
            exact ih (i + 4) (by omega) (by omega) (rt_s1 rt (xs (i + 1)) (rt_w sr pd ct cg pn rt mk n f g c k)) mk sr sv tk pd (rt_s2 rt (xs (i + 1)) pd ct cg (rt_w sr pd ct cg pn rt mk n f g c k)) cg (rt_s3 rt (xs (i + 1)) pd ct cg pn (rt_w sr pd ct cg pn rt mk n f g c k)) n c_148 f g (rt_I_st hI hk h0_148) _ _ _ hP hD hS (lv_sub hl [1, 2, 3, 0] rfl)
          · exact absurd rfl c_151
        · skip
          by_cases e_2 : ((xs i) &&& 15) = 2
          · refine rt_topi 2 e_2 ?_
            refine lv_tableIn (tgt := 156) hx hb d_law_32 (by decide) (by decide) rfl (by decide) ?_
            refine lv_aload_n hx hb d_law_156 rfl (lv_at hl 1 rfl) ?_
            refine rt_gi (wr := [(m0, .inr (3, [.int 0, .int rt, .int ct, .int pd, .int cg, .int pn, .int mk, .int sr, .int sv, .int tk, .ref m1, .ref m2, .int (nI n), .int (nI c)])), (m1, .inl (cE, 32, .inl f)), (m2, .inl (cF, 32, .inl g))]) (rt_runV (rest := []) ⟨hx, hb, hml, hown, hts⟩ (c_Rt_take l dC dI q0 x1 x2 x3 x4 cC cV H.size rt mk sr sv tk pd ct cg pn n f g c k hn hc hk) (rt_gV m_150 m_151 m_152 m_10 m_153) hd_Rt_take ⟨Nat.le_of_ble_eq_true rfl, Nat.le_of_ble_eq_true rfl, rfl, rfl⟩ hP hK hD hN [0, 1, 2, 3, 4] [0, 1] (by decide) rfl rfl rfl rfl rfl hl.1 rfl (Nat.le_of_ble_eq_true rfl) d_law_157 ⟨Nat.le_of_ble_eq_true rfl, Nat.le_of_ble_eq_true rfl⟩) hP hD hS hA [0, 1, 2, 3, 4] [5, 6, 7] rfl rfl (by decide) (by decide) (fun r_157 u_157 H locs hw_157 hP hD hS _ => ?_)
            obtain ⟨sr_157, sv_157, tk_157⟩ := u_157
            try dsimp only at hw_157
            obtain ⟨w0_157, w1_157, w2_157, w3_157⟩ := hw_157
            obtain rfl := w0_157.symm
            obtain rfl := w1_157.symm
            obtain rfl := w2_157.symm
            obtain rfl := w3_157.symm
            have hP : va_P (dC, dI) classes [(m0, .inr (3, [.int 0, .int rt, .int ct, .int pd, .int cg, .int pn, .int mk, .int sr, .int sv, .int tk, .ref m1, .ref m2, .int (nI n), .int (nI c)])), (m1, .inl (cE, 32, .inl f)), (m2, .inl (cF, 32, .inl g)), (q0, .inr (2, [.ref x1, .ref x2, .int rt, .int mk, .int (rt_ts (rt_dm sr pn mk (rt_lv g c)) sr), .int (rt_tv (rt_dm sr pn mk (rt_lv g c)) sr sv), .int (rt_tt (rt_dm sr pn mk (rt_lv g c)) tk)])), (x1, .inr (0, [.int pd, .int ct, .int cg, .int pn])), (x2, .inr (1, [.ref x3, .ref x4, .int (nI n)])), (x3, .inl (cC, 32, .inl f)), (x4, .inl (cV, 32, .inl g))] H := hP
            have hD : va_D A [(m0, .inr (3, [.int 0, .int rt, .int ct, .int pd, .int cg, .int pn, .int mk, .int sr, .int sv, .int tk, .ref m1, .ref m2, .int (nI n), .int (nI c)])), (m1, .inl (cE, 32, .inl f)), (m2, .inl (cF, 32, .inl g)), (q0, .inr (2, [.ref x1, .ref x2, .int rt, .int mk, .int (rt_ts (rt_dm sr pn mk (rt_lv g c)) sr), .int (rt_tv (rt_dm sr pn mk (rt_lv g c)) sr sv), .int (rt_tt (rt_dm sr pn mk (rt_lv g c)) tk)])), (x1, .inr (0, [.int pd, .int ct, .int cg, .int pn])), (x2, .inr (1, [.ref x3, .ref x4, .int (nI n)])), (x3, .inl (cC, 32, .inl f)), (x4, .inl (cV, 32, .inl g))] := hD
            refine lv_aload_n hx hb d_law_160 rfl (lv_at hl 2 rfl) ?_
            refine rt_gi (wr := [(q0, .inr (2, [.ref x1, .ref x2, .int rt, .int mk, .int (rt_ts (rt_dm sr pn mk (rt_lv g c)) sr), .int (rt_tv (rt_dm sr pn mk (rt_lv g c)) sr sv), .int (rt_tt (rt_dm sr pn mk (rt_lv g c)) tk)])), (x1, .inr (0, [.int pd, .int ct, .int cg, .int pn])), (x2, .inr (1, [.ref x3, .ref x4, .int (nI n)])), (x3, .inl (cC, 32, .inl f)), (x4, .inl (cV, 32, .inl g))]) (rt_runV (rest := [.int (rt_dm sr pn mk (rt_lv g c))]) ⟨hx, hb, hml, hown, hts⟩ (c_Md_take l dC dI m0 m1 m2 cE cF H.size rt ct pd cg pn mk sr sv tk n c f g hn hc.1) (rt_gV m_270 m_271 m_272 m_13 m_273) hd_Md_take ⟨Nat.le_of_ble_eq_true rfl, Nat.le_of_ble_eq_true rfl, rfl, rfl⟩ hP hK hD hN [0, 1, 2] [2, 3] (by decide) rfl rfl rfl rfl rfl hl.1 rfl (Nat.le_of_ble_eq_true rfl) d_law_161 ⟨Nat.le_of_ble_eq_true rfl, Nat.le_of_ble_eq_true rfl⟩) hP hD hS hA [0, 1, 2] [3, 4, 5, 6, 7] rfl rfl (by decide) (by decide) (fun r_161 u_161 H locs hw_161 hP hD hS _ => ?_)
            obtain ⟨sr_161, sv_161, tk_161⟩ := u_161
            try dsimp only at hw_161
            obtain ⟨w0_161, w1_161, w2_161, w3_161⟩ := hw_161
            obtain rfl := w0_161.symm
            obtain rfl := w1_161.symm
            obtain rfl := w2_161.symm
            obtain rfl := w3_161.symm
            have hP : va_P (dC, dI) classes [(q0, .inr (2, [.ref x1, .ref x2, .int rt, .int mk, .int (rt_ts (rt_dm sr pn mk (rt_lv g c)) sr), .int (rt_tv (rt_dm sr pn mk (rt_lv g c)) sr sv), .int (rt_tt (rt_dm sr pn mk (rt_lv g c)) tk)])), (x1, .inr (0, [.int pd, .int ct, .int cg, .int pn])), (x2, .inr (1, [.ref x3, .ref x4, .int (nI n)])), (x3, .inl (cC, 32, .inl f)), (x4, .inl (cV, 32, .inl g)), (m0, .inr (3, [.int 0, .int rt, .int ct, .int pd, .int cg, .int pn, .int mk, .int (rt_ts (rt_dm sr pn mk (rt_lv g c)) sr), .int (rt_tv (rt_dm sr pn mk (rt_lv g c)) sr sv), .int (rt_tt (rt_dm sr pn mk (rt_lv g c)) tk), .ref m1, .ref m2, .int (nI n), .int (nI c)])), (m1, .inl (cE, 32, .inl f)), (m2, .inl (cF, 32, .inl g))] H := hP
            have hD : va_D A [(q0, .inr (2, [.ref x1, .ref x2, .int rt, .int mk, .int (rt_ts (rt_dm sr pn mk (rt_lv g c)) sr), .int (rt_tv (rt_dm sr pn mk (rt_lv g c)) sr sv), .int (rt_tt (rt_dm sr pn mk (rt_lv g c)) tk)])), (x1, .inr (0, [.int pd, .int ct, .int cg, .int pn])), (x2, .inr (1, [.ref x3, .ref x4, .int (nI n)])), (x3, .inl (cC, 32, .inl f)), (x4, .inl (cV, 32, .inl g)), (m0, .inr (3, [.int 0, .int rt, .int ct, .int pd, .int cg, .int pn, .int mk, .int (rt_ts (rt_dm sr pn mk (rt_lv g c)) sr), .int (rt_tv (rt_dm sr pn mk (rt_lv g c)) sr sv), .int (rt_tt (rt_dm sr pn mk (rt_lv g c)) tk), .ref m1, .ref m2, .int (nI n), .int (nI c)])), (m1, .inl (cE, 32, .inl f)), (m2, .inl (cF, 32, .inl g))] := hD
            refine lv_icmp_eq (tgt := 435) hx hb d_law_164 (by decide) (fun c_164 => ?_) (fun c_164 => ?_)
            · refine lv_iinc (v := (nI (i + 4))) (lv' := [(3, .int (nI (i + 4))), (0, .ref b), (1, .ref q0), (2, .ref m0)]) hx hb d_law_435 hl (k := 3) rfl (nI_add i 4) (by decide) rfl (fun ls hl => ?_)
              refine lv_goto (tgt := 18) hx hb d_law_438 (by decide) ?_
              exact ih (i + 4) (by omega) (by omega) rt mk (rt_ts (rt_dm sr pn mk (rt_lv g c)) sr) (rt_tv (rt_dm sr pn mk (rt_lv g c)) sr sv) (rt_tt (rt_dm sr pn mk (rt_lv g c)) tk) pd ct cg pn n c f g hI _ _ _ hP hD hS (lv_sub hl [1, 2, 3, 0] rfl)
            · exact absurd rfl c_164
          · skip
            by_cases e_3 : ((xs i) &&& 15) = 3
            · refine rt_topi 3 e_3 ?_
              refine lv_tableIn (tgt := 169) hx hb d_law_32 (by decide) (by decide) rfl (by decide) ?_
              refine lv_aload_n hx hb d_law_169 rfl (lv_at hl 1 rfl) ?_
              refine rt_gv (wr := [(m0, .inr (3, [.int 0, .int rt, .int ct, .int pd, .int cg, .int pn, .int mk, .int sr, .int sv, .int tk, .ref m1, .ref m2, .int (nI n), .int (nI c)])), (m1, .inl (cE, 32, .inl f)), (m2, .inl (cF, 32, .inl g))]) (rt_runV (rest := []) ⟨hx, hb, hml, hown, hts⟩ (c_Rt_back l dC dI q0 x1 x2 x3 x4 cC cV H.size rt mk sr sv tk pd ct cg pn n f g) (rt_gV m_158 m_159 m_160 m_10 m_161) hd_Rt_back ⟨Nat.le_of_ble_eq_true rfl, Nat.le_of_ble_eq_true rfl, rfl, rfl⟩ hP hK hD hN [0, 1, 2, 3, 4] [0, 1] (by decide) rfl rfl rfl rfl rfl hl.1 rfl (Nat.le_of_ble_eq_true rfl) d_law_170 ⟨Nat.le_of_ble_eq_true rfl, Nat.le_of_ble_eq_true rfl⟩) hP hD hS hA [0, 1, 2, 3, 4] [5, 6, 7] rfl rfl (by decide) (by decide) (fun sr_170 H locs hw_170 hP hD hS _ => ?_)
              try dsimp only at hw_170
              have w0_170 := hw_170
              obtain rfl := w0_170.symm
              have hP : va_P (dC, dI) classes [(m0, .inr (3, [.int 0, .int rt, .int ct, .int pd, .int cg, .int pn, .int mk, .int sr, .int sv, .int tk, .ref m1, .ref m2, .int (nI n), .int (nI c)])), (m1, .inl (cE, 32, .inl f)), (m2, .inl (cF, 32, .inl g)), (q0, .inr (2, [.ref x1, .ref x2, .int rt, .int mk, .int sv, .int sv, .int tk])), (x1, .inr (0, [.int pd, .int ct, .int cg, .int pn])), (x2, .inr (1, [.ref x3, .ref x4, .int (nI n)])), (x3, .inl (cC, 32, .inl f)), (x4, .inl (cV, 32, .inl g))] H := hP
              have hD : va_D A [(m0, .inr (3, [.int 0, .int rt, .int ct, .int pd, .int cg, .int pn, .int mk, .int sr, .int sv, .int tk, .ref m1, .ref m2, .int (nI n), .int (nI c)])), (m1, .inl (cE, 32, .inl f)), (m2, .inl (cF, 32, .inl g)), (q0, .inr (2, [.ref x1, .ref x2, .int rt, .int mk, .int sv, .int sv, .int tk])), (x1, .inr (0, [.int pd, .int ct, .int cg, .int pn])), (x2, .inr (1, [.ref x3, .ref x4, .int (nI n)])), (x3, .inl (cC, 32, .inl f)), (x4, .inl (cV, 32, .inl g))] := hD
              refine lv_aload_n hx hb d_law_173 rfl (lv_at hl 2 rfl) ?_
              refine rt_gv (wr := [(q0, .inr (2, [.ref x1, .ref x2, .int rt, .int mk, .int sv, .int sv, .int tk])), (x1, .inr (0, [.int pd, .int ct, .int cg, .int pn])), (x2, .inr (1, [.ref x3, .ref x4, .int (nI n)])), (x3, .inl (cC, 32, .inl f)), (x4, .inl (cV, 32, .inl g))]) (rt_runV (rest := []) ⟨hx, hb, hml, hown, hts⟩ (c_Md_back l dC dI m0 m1 m2 cE cF H.size rt ct pd cg pn mk sr sv tk n c f g) (rt_gV m_274 m_275 m_276 m_13 m_277) hd_Md_back ⟨Nat.le_of_ble_eq_true rfl, Nat.le_of_ble_eq_true rfl, rfl, rfl⟩ hP hK hD hN [0, 1, 2] [2, 3] (by decide) rfl rfl rfl rfl rfl hl.1 rfl (Nat.le_of_ble_eq_true rfl) d_law_174 ⟨Nat.le_of_ble_eq_true rfl, Nat.le_of_ble_eq_true rfl⟩) hP hD hS hA [0, 1, 2] [3, 4, 5, 6, 7] rfl rfl (by decide) (by decide) (fun sr_174 H locs hw_174 hP hD hS _ => ?_)
              try dsimp only at hw_174
              have w0_174 := hw_174
              obtain rfl := w0_174.symm
              have hP : va_P (dC, dI) classes [(q0, .inr (2, [.ref x1, .ref x2, .int rt, .int mk, .int sv, .int sv, .int tk])), (x1, .inr (0, [.int pd, .int ct, .int cg, .int pn])), (x2, .inr (1, [.ref x3, .ref x4, .int (nI n)])), (x3, .inl (cC, 32, .inl f)), (x4, .inl (cV, 32, .inl g)), (m0, .inr (3, [.int 0, .int rt, .int ct, .int pd, .int cg, .int pn, .int mk, .int sv, .int sv, .int tk, .ref m1, .ref m2, .int (nI n), .int (nI c)])), (m1, .inl (cE, 32, .inl f)), (m2, .inl (cF, 32, .inl g))] H := hP
              have hD : va_D A [(q0, .inr (2, [.ref x1, .ref x2, .int rt, .int mk, .int sv, .int sv, .int tk])), (x1, .inr (0, [.int pd, .int ct, .int cg, .int pn])), (x2, .inr (1, [.ref x3, .ref x4, .int (nI n)])), (x3, .inl (cC, 32, .inl f)), (x4, .inl (cV, 32, .inl g)), (m0, .inr (3, [.int 0, .int rt, .int ct, .int pd, .int cg, .int pn, .int mk, .int sv, .int sv, .int tk, .ref m1, .ref m2, .int (nI n), .int (nI c)])), (m1, .inl (cE, 32, .inl f)), (m2, .inl (cF, 32, .inl g))] := hD
              refine lv_goto (tgt := 435) hx hb d_law_177 (by decide) ?_
              refine lv_iinc (v := (nI (i + 4))) (lv' := [(3, .int (nI (i + 4))), (0, .ref b), (1, .ref q0), (2, .ref m0)]) hx hb d_law_435 hl (k := 3) rfl (nI_add i 4) (by decide) rfl (fun ls hl => ?_)
              refine lv_goto (tgt := 18) hx hb d_law_438 (by decide) ?_
              exact ih (i + 4) (by omega) (by omega) rt mk sv sv tk pd ct cg pn n c f g hI _ _ _ hP hD hS (lv_sub hl [1, 2, 3, 0] rfl)
            · skip
              by_cases e_4 : ((xs i) &&& 15) = 4
              · refine rt_topi 4 e_4 ?_
                refine lv_tableIn (tgt := 180) hx hb d_law_32 (by decide) (by decide) rfl (by decide) ?_
                refine lv_aload_n hx hb d_law_180 rfl (lv_at hl 1 rfl) ?_
                refine lv_aload_n hx hb d_law_181 rfl (lv_at hl 0 rfl) ?_
                refine lv_iload_n hx hb d_law_182 rfl (lv_at hl 3 rfl) ?_
                refine lv_iconst (v := 1) hx hb d_law_183 (by decide) ?_
                refine lv_iadd hx hb d_law_184 ?_
                refine rt_topi (nI (i + 1)) (nI_add i 1) ?_
                refine rt_sld hx hb hX hbl hbA hS (i + 1) rfl (by omega) (by omega) d_law_185 ?_
                refine rt_gv (wr := [(m0, .inr (3, [.int 0, .int rt, .int ct, .int pd, .int cg, .int pn, .int mk, .int sr, .int sv, .int tk, .ref m1, .ref m2, .int (nI n), .int (nI c)])), (m1, .inl (cE, 32, .inl f)), (m2, .inl (cF, 32, .inl g))]) (rt_runV (rest := []) ⟨hx, hb, hml, hown, hts⟩ (c_Rt_mode l dC dI q0 x1 x2 x3 x4 cC cV H.size rt mk sr sv tk pd ct cg pn n f g (xs (i + 1))) (rt_gV m_162 m_163 m_164 m_10 m_165) hd_Rt_mode ⟨Nat.le_of_ble_eq_true rfl, Nat.le_of_ble_eq_true rfl, rfl, rfl⟩ hP hK hD hN [0, 1, 2, 3, 4] [0, 1] (by decide) rfl rfl rfl rfl rfl hl.1 rfl (Nat.le_of_ble_eq_true rfl) d_law_186 ⟨Nat.le_of_ble_eq_true rfl, Nat.le_of_ble_eq_true rfl⟩) hP hD hS hA [0, 1, 2, 3, 4] [5, 6, 7] rfl rfl (by decide) (by decide) (fun sr_186 H locs hw_186 hP hD hS _ => ?_)
                try dsimp only at hw_186
                have w0_186 := hw_186
                obtain rfl := w0_186.symm
                have hP : va_P (dC, dI) classes [(m0, .inr (3, [.int 0, .int rt, .int ct, .int pd, .int cg, .int pn, .int mk, .int sr, .int sv, .int tk, .ref m1, .ref m2, .int (nI n), .int (nI c)])), (m1, .inl (cE, 32, .inl f)), (m2, .inl (cF, 32, .inl g)), (q0, .inr (2, [.ref x1, .ref x2, .int rt, .int mk, .int ((xs (i + 1)) &&& 39), .int sv, .int tk])), (x1, .inr (0, [.int pd, .int ct, .int cg, .int pn])), (x2, .inr (1, [.ref x3, .ref x4, .int (nI n)])), (x3, .inl (cC, 32, .inl f)), (x4, .inl (cV, 32, .inl g))] H := hP
                have hD : va_D A [(m0, .inr (3, [.int 0, .int rt, .int ct, .int pd, .int cg, .int pn, .int mk, .int sr, .int sv, .int tk, .ref m1, .ref m2, .int (nI n), .int (nI c)])), (m1, .inl (cE, 32, .inl f)), (m2, .inl (cF, 32, .inl g)), (q0, .inr (2, [.ref x1, .ref x2, .int rt, .int mk, .int ((xs (i + 1)) &&& 39), .int sv, .int tk])), (x1, .inr (0, [.int pd, .int ct, .int cg, .int pn])), (x2, .inr (1, [.ref x3, .ref x4, .int (nI n)])), (x3, .inl (cC, 32, .inl f)), (x4, .inl (cV, 32, .inl g))] := hD
                refine lv_aload_n hx hb d_law_189 rfl (lv_at hl 2 rfl) ?_
                refine lv_aload_n hx hb d_law_190 rfl (lv_at hl 0 rfl) ?_
                refine lv_iload_n hx hb d_law_191 rfl (lv_at hl 3 rfl) ?_
                refine lv_iconst (v := 1) hx hb d_law_192 (by decide) ?_
                refine lv_iadd hx hb d_law_193 ?_
                refine rt_topi (nI (i + 1)) (nI_add i 1) ?_
                refine rt_sld hx hb hX hbl hbA hS (i + 1) rfl (by omega) (by omega) d_law_194 ?_
                refine rt_gv (wr := [(q0, .inr (2, [.ref x1, .ref x2, .int rt, .int mk, .int ((xs (i + 1)) &&& 39), .int sv, .int tk])), (x1, .inr (0, [.int pd, .int ct, .int cg, .int pn])), (x2, .inr (1, [.ref x3, .ref x4, .int (nI n)])), (x3, .inl (cC, 32, .inl f)), (x4, .inl (cV, 32, .inl g))]) (rt_runV (rest := []) ⟨hx, hb, hml, hown, hts⟩ (c_Md_mode l dC dI m0 m1 m2 cE cF H.size rt ct pd cg pn mk sr sv tk n c f g (xs (i + 1))) (rt_gV m_278 m_279 m_280 m_13 m_281) hd_Md_mode ⟨Nat.le_of_ble_eq_true rfl, Nat.le_of_ble_eq_true rfl, rfl, rfl⟩ hP hK hD hN [0, 1, 2] [2, 3] (by decide) rfl rfl rfl rfl rfl hl.1 rfl (Nat.le_of_ble_eq_true rfl) d_law_195 ⟨Nat.le_of_ble_eq_true rfl, Nat.le_of_ble_eq_true rfl⟩) hP hD hS hA [0, 1, 2] [3, 4, 5, 6, 7] rfl rfl (by decide) (by decide) (fun sr_195 H locs hw_195 hP hD hS _ => ?_)
                try dsimp only at hw_195
                have w0_195 := hw_195
                obtain rfl := w0_195.symm
                have hP : va_P (dC, dI) classes [(q0, .inr (2, [.ref x1, .ref x2, .int rt, .int mk, .int ((xs (i + 1)) &&& 39), .int sv, .int tk])), (x1, .inr (0, [.int pd, .int ct, .int cg, .int pn])), (x2, .inr (1, [.ref x3, .ref x4, .int (nI n)])), (x3, .inl (cC, 32, .inl f)), (x4, .inl (cV, 32, .inl g)), (m0, .inr (3, [.int 0, .int rt, .int ct, .int pd, .int cg, .int pn, .int mk, .int ((xs (i + 1)) &&& 39), .int sv, .int tk, .ref m1, .ref m2, .int (nI n), .int (nI c)])), (m1, .inl (cE, 32, .inl f)), (m2, .inl (cF, 32, .inl g))] H := hP
                have hD : va_D A [(q0, .inr (2, [.ref x1, .ref x2, .int rt, .int mk, .int ((xs (i + 1)) &&& 39), .int sv, .int tk])), (x1, .inr (0, [.int pd, .int ct, .int cg, .int pn])), (x2, .inr (1, [.ref x3, .ref x4, .int (nI n)])), (x3, .inl (cC, 32, .inl f)), (x4, .inl (cV, 32, .inl g)), (m0, .inr (3, [.int 0, .int rt, .int ct, .int pd, .int cg, .int pn, .int mk, .int ((xs (i + 1)) &&& 39), .int sv, .int tk, .ref m1, .ref m2, .int (nI n), .int (nI c)])), (m1, .inl (cE, 32, .inl f)), (m2, .inl (cF, 32, .inl g))] := hD
                refine lv_goto (tgt := 435) hx hb d_law_198 (by decide) ?_
                refine lv_iinc (v := (nI (i + 4))) (lv' := [(3, .int (nI (i + 4))), (0, .ref b), (1, .ref q0), (2, .ref m0)]) hx hb d_law_435 hl (k := 3) rfl (nI_add i 4) (by decide) rfl (fun ls hl => ?_)
                refine lv_goto (tgt := 18) hx hb d_law_438 (by decide) ?_
                exact ih (i + 4) (by omega) (by omega) rt mk ((xs (i + 1)) &&& 39) sv tk pd ct cg pn n c f g hI _ _ _ hP hD hS (lv_sub hl [1, 2, 3, 0] rfl)
              · skip
                by_cases e_5 : ((xs i) &&& 15) = 5
                · refine rt_topi 5 e_5 ?_
                  refine lv_tableIn (tgt := 201) hx hb d_law_32 (by decide) (by decide) rfl (by decide) ?_
                  refine lv_aload_n hx hb d_law_201 rfl (lv_at hl 1 rfl) ?_
                  refine lv_aload_n hx hb d_law_202 rfl (lv_at hl 0 rfl) ?_
                  refine lv_iload_n hx hb d_law_203 rfl (lv_at hl 3 rfl) ?_
                  refine lv_iconst (v := 1) hx hb d_law_204 (by decide) ?_
                  refine lv_iadd hx hb d_law_205 ?_
                  refine rt_topi (nI (i + 1)) (nI_add i 1) ?_
                  refine rt_sld hx hb hX hbl hbA hS (i + 1) rfl (by omega) (by omega) d_law_206 ?_
                  refine rt_gv (wr := [(m0, .inr (3, [.int 0, .int rt, .int ct, .int pd, .int cg, .int pn, .int mk, .int sr, .int sv, .int tk, .ref m1, .ref m2, .int (nI n), .int (nI c)])), (m1, .inl (cE, 32, .inl f)), (m2, .inl (cF, 32, .inl g))]) (rt_runV (rest := []) ⟨hx, hb, hml, hown, hts⟩ (c_Rt_mask l dC dI q0 x1 x2 x3 x4 cC cV H.size rt mk sr sv tk pd ct cg pn n f g (xs (i + 1))) (rt_gV m_166 m_167 m_168 m_10 m_169) hd_Rt_mask ⟨Nat.le_of_ble_eq_true rfl, Nat.le_of_ble_eq_true rfl, rfl, rfl⟩ hP hK hD hN [0, 1, 2, 3, 4] [0, 1] (by decide) rfl rfl rfl rfl rfl hl.1 rfl (Nat.le_of_ble_eq_true rfl) d_law_207 ⟨Nat.le_of_ble_eq_true rfl, Nat.le_of_ble_eq_true rfl⟩) hP hD hS hA [0, 1, 2, 3, 4] [5, 6, 7] rfl rfl (by decide) (by decide) (fun mk_207 H locs hw_207 hP hD hS _ => ?_)
                  try dsimp only at hw_207
                  have w0_207 := hw_207
                  obtain rfl := w0_207.symm
                  have hP : va_P (dC, dI) classes [(m0, .inr (3, [.int 0, .int rt, .int ct, .int pd, .int cg, .int pn, .int mk, .int sr, .int sv, .int tk, .ref m1, .ref m2, .int (nI n), .int (nI c)])), (m1, .inl (cE, 32, .inl f)), (m2, .inl (cF, 32, .inl g)), (q0, .inr (2, [.ref x1, .ref x2, .int rt, .int (xs (i + 1)), .int sr, .int sv, .int tk])), (x1, .inr (0, [.int pd, .int ct, .int cg, .int pn])), (x2, .inr (1, [.ref x3, .ref x4, .int (nI n)])), (x3, .inl (cC, 32, .inl f)), (x4, .inl (cV, 32, .inl g))] H := hP
                  have hD : va_D A [(m0, .inr (3, [.int 0, .int rt, .int ct, .int pd, .int cg, .int pn, .int mk, .int sr, .int sv, .int tk, .ref m1, .ref m2, .int (nI n), .int (nI c)])), (m1, .inl (cE, 32, .inl f)), (m2, .inl (cF, 32, .inl g)), (q0, .inr (2, [.ref x1, .ref x2, .int rt, .int (xs (i + 1)), .int sr, .int sv, .int tk])), (x1, .inr (0, [.int pd, .int ct, .int cg, .int pn])), (x2, .inr (1, [.ref x3, .ref x4, .int (nI n)])), (x3, .inl (cC, 32, .inl f)), (x4, .inl (cV, 32, .inl g))] := hD
                  refine lv_aload_n hx hb d_law_210 rfl (lv_at hl 2 rfl) ?_
                  refine lv_aload_n hx hb d_law_211 rfl (lv_at hl 0 rfl) ?_
                  refine lv_iload_n hx hb d_law_212 rfl (lv_at hl 3 rfl) ?_
                  refine lv_iconst (v := 1) hx hb d_law_213 (by decide) ?_
                  refine lv_iadd hx hb d_law_214 ?_
                  refine rt_topi (nI (i + 1)) (nI_add i 1) ?_
                  refine rt_sld hx hb hX hbl hbA hS (i + 1) rfl (by omega) (by omega) d_law_215 ?_
                  refine rt_gv (wr := [(q0, .inr (2, [.ref x1, .ref x2, .int rt, .int (xs (i + 1)), .int sr, .int sv, .int tk])), (x1, .inr (0, [.int pd, .int ct, .int cg, .int pn])), (x2, .inr (1, [.ref x3, .ref x4, .int (nI n)])), (x3, .inl (cC, 32, .inl f)), (x4, .inl (cV, 32, .inl g))]) (rt_runV (rest := []) ⟨hx, hb, hml, hown, hts⟩ (c_Md_mask l dC dI m0 m1 m2 cE cF H.size rt ct pd cg pn mk sr sv tk n c f g (xs (i + 1))) (rt_gV m_282 m_283 m_284 m_13 m_285) hd_Md_mask ⟨Nat.le_of_ble_eq_true rfl, Nat.le_of_ble_eq_true rfl, rfl, rfl⟩ hP hK hD hN [0, 1, 2] [2, 3] (by decide) rfl rfl rfl rfl rfl hl.1 rfl (Nat.le_of_ble_eq_true rfl) d_law_216 ⟨Nat.le_of_ble_eq_true rfl, Nat.le_of_ble_eq_true rfl⟩) hP hD hS hA [0, 1, 2] [3, 4, 5, 6, 7] rfl rfl (by decide) (by decide) (fun mk_216 H locs hw_216 hP hD hS _ => ?_)
                  try dsimp only at hw_216
                  have w0_216 := hw_216
                  obtain rfl := w0_216.symm
                  have hP : va_P (dC, dI) classes [(q0, .inr (2, [.ref x1, .ref x2, .int rt, .int (xs (i + 1)), .int sr, .int sv, .int tk])), (x1, .inr (0, [.int pd, .int ct, .int cg, .int pn])), (x2, .inr (1, [.ref x3, .ref x4, .int (nI n)])), (x3, .inl (cC, 32, .inl f)), (x4, .inl (cV, 32, .inl g)), (m0, .inr (3, [.int 0, .int rt, .int ct, .int pd, .int cg, .int pn, .int (xs (i + 1)), .int sr, .int sv, .int tk, .ref m1, .ref m2, .int (nI n), .int (nI c)])), (m1, .inl (cE, 32, .inl f)), (m2, .inl (cF, 32, .inl g))] H := hP
                  have hD : va_D A [(q0, .inr (2, [.ref x1, .ref x2, .int rt, .int (xs (i + 1)), .int sr, .int sv, .int tk])), (x1, .inr (0, [.int pd, .int ct, .int cg, .int pn])), (x2, .inr (1, [.ref x3, .ref x4, .int (nI n)])), (x3, .inl (cC, 32, .inl f)), (x4, .inl (cV, 32, .inl g)), (m0, .inr (3, [.int 0, .int rt, .int ct, .int pd, .int cg, .int pn, .int (xs (i + 1)), .int sr, .int sv, .int tk, .ref m1, .ref m2, .int (nI n), .int (nI c)])), (m1, .inl (cE, 32, .inl f)), (m2, .inl (cF, 32, .inl g))] := hD
                  refine lv_goto (tgt := 435) hx hb d_law_219 (by decide) ?_
                  refine lv_iinc (v := (nI (i + 4))) (lv' := [(3, .int (nI (i + 4))), (0, .ref b), (1, .ref q0), (2, .ref m0)]) hx hb d_law_435 hl (k := 3) rfl (nI_add i 4) (by decide) rfl (fun ls hl => ?_)
                  refine lv_goto (tgt := 18) hx hb d_law_438 (by decide) ?_
                  exact ih (i + 4) (by omega) (by omega) rt (xs (i + 1)) sr sv tk pd ct cg pn n c f g hI _ _ _ hP hD hS (lv_sub hl [1, 2, 3, 0] rfl)
                · skip
                  by_cases e_6 : ((xs i) &&& 15) = 6
                  · refine rt_topi 6 e_6 ?_
                    refine lv_tableIn (tgt := 222) hx hb d_law_32 (by decide) (by decide) rfl (by decide) ?_
                    refine lv_aload_n hx hb d_law_222 rfl (lv_at hl 1 rfl) ?_
                    refine lv_aload_n hx hb d_law_223 rfl (lv_at hl 0 rfl) ?_
                    refine lv_iload_n hx hb d_law_224 rfl (lv_at hl 3 rfl) ?_
                    refine lv_iconst (v := 1) hx hb d_law_225 (by decide) ?_
                    refine lv_iadd hx hb d_law_226 ?_
                    refine rt_topi (nI (i + 1)) (nI_add i 1) ?_
                    refine rt_sld hx hb hX hbl hbA hS (i + 1) rfl (by omega) (by omega) d_law_227 ?_
                    refine lv_aload_n hx hb d_law_228 rfl (lv_at hl 0 rfl) ?_
                    refine lv_iload_n hx hb d_law_229 rfl (lv_at hl 3 rfl) ?_
                    refine lv_iconst (v := 2) hx hb d_law_230 (by decide) ?_
                    refine lv_iadd hx hb d_law_231 ?_
                    refine rt_topi (nI (i + 2)) (nI_add i 2) ?_
                    refine rt_sld hx hb hX hbl hbA hS (i + 2) rfl (by omega) (by omega) d_law_232 ?_
                    refine lv_if_eq (tgt := 240) hx hb d_law_233 (by decide) (fun c_233 => ?_) (fun c_233 => ?_)
                    · refine lv_iconst (v := 0) hx hb d_law_240 (by decide) ?_
                      refine lv_aload_n hx hb d_law_241 rfl (lv_at hl 0 rfl) ?_
                      refine lv_iload_n hx hb d_law_242 rfl (lv_at hl 3 rfl) ?_
                      refine lv_iconst (v := 3) hx hb d_law_243 (by decide) ?_
                      refine lv_iadd hx hb d_law_244 ?_
                      refine rt_topi (nI (i + 3)) (nI_add i 3) ?_
                      refine rt_sld hx hb hX hbl hbA hS (i + 3) rfl (by omega) (by omega) d_law_245 ?_
                      refine lv_if_eq (tgt := 253) hx hb d_law_246 (by decide) (fun c_246 => ?_) (fun c_246 => ?_)
                      · refine lv_iconst (v := 0) hx hb d_law_253 (by decide) ?_
                        refine rt_gv (wr := [(m0, .inr (3, [.int 0, .int rt, .int ct, .int pd, .int cg, .int pn, .int mk, .int sr, .int sv, .int tk, .ref m1, .ref m2, .int (nI n), .int (nI c)])), (m1, .inl (cE, 32, .inl f)), (m2, .inl (cF, 32, .inl g))]) (rt_runV (rest := []) ⟨hx, hb, hml, hown, hts⟩ (c_Rt_timer l dC dI q0 x1 x2 x3 x4 cC cV H.size rt mk sr sv tk pd ct cg pn n f g (xs (i + 1)) 0 0 (Or.inl rfl) (Or.inl rfl)) (rt_gV m_170 m_171 m_172 m_10 m_173) hd_Rt_timer ⟨Nat.le_of_ble_eq_true rfl, Nat.le_of_ble_eq_true rfl, rfl, rfl⟩ hP hK hD hN [0, 1, 2, 3, 4] [0, 1] (by decide) rfl rfl rfl rfl rfl hl.1 rfl (Nat.le_of_ble_eq_true rfl) d_law_254 ⟨Nat.le_of_ble_eq_true rfl, Nat.le_of_ble_eq_true rfl⟩) hP hD hS hA [0, 1, 2, 3, 4] [5, 6, 7] rfl rfl (by decide) (by decide) (fun u_254 H locs hw_254 hP hD hS _ => ?_)
                        obtain ⟨pd_254, cg_254, pn_254⟩ := u_254
                        try dsimp only at hw_254
                        obtain ⟨w0_254, w1_254, w2_254⟩ := hw_254
                        obtain rfl := w0_254.symm
                        obtain rfl := w1_254.symm
                        obtain rfl := w2_254.symm
                        have hP : va_P (dC, dI) classes [(m0, .inr (3, [.int 0, .int rt, .int ct, .int pd, .int cg, .int pn, .int mk, .int sr, .int sv, .int tk, .ref m1, .ref m2, .int (nI n), .int (nI c)])), (m1, .inl (cE, 32, .inl f)), (m2, .inl (cF, 32, .inl g)), (q0, .inr (2, [.ref x1, .ref x2, .int rt, .int mk, .int sr, .int sv, .int tk])), (x1, .inr (0, [.int ((xs (i + 1)) &&& 268435455), .int ct, .int 0, .int 0])), (x2, .inr (1, [.ref x3, .ref x4, .int (nI n)])), (x3, .inl (cC, 32, .inl f)), (x4, .inl (cV, 32, .inl g))] H := hP
                        have hD : va_D A [(m0, .inr (3, [.int 0, .int rt, .int ct, .int pd, .int cg, .int pn, .int mk, .int sr, .int sv, .int tk, .ref m1, .ref m2, .int (nI n), .int (nI c)])), (m1, .inl (cE, 32, .inl f)), (m2, .inl (cF, 32, .inl g)), (q0, .inr (2, [.ref x1, .ref x2, .int rt, .int mk, .int sr, .int sv, .int tk])), (x1, .inr (0, [.int ((xs (i + 1)) &&& 268435455), .int ct, .int 0, .int 0])), (x2, .inr (1, [.ref x3, .ref x4, .int (nI n)])), (x3, .inl (cC, 32, .inl f)), (x4, .inl (cV, 32, .inl g))] := hD
                        refine lv_aload_n hx hb d_law_257 rfl (lv_at hl 2 rfl) ?_
                        refine lv_aload_n hx hb d_law_258 rfl (lv_at hl 0 rfl) ?_
                        refine lv_iload_n hx hb d_law_259 rfl (lv_at hl 3 rfl) ?_
                        refine lv_iconst (v := 1) hx hb d_law_260 (by decide) ?_
                        refine lv_iadd hx hb d_law_261 ?_
                        refine rt_topi (nI (i + 1)) (nI_add i 1) ?_
                        refine rt_sld hx hb hX hbl hbA hS (i + 1) rfl (by omega) (by omega) d_law_262 ?_
                        refine lv_aload_n hx hb d_law_263 rfl (lv_at hl 0 rfl) ?_
                        refine lv_iload_n hx hb d_law_264 rfl (lv_at hl 3 rfl) ?_
                        refine lv_iconst (v := 2) hx hb d_law_265 (by decide) ?_
                        refine lv_iadd hx hb d_law_266 ?_
                        refine rt_topi (nI (i + 2)) (nI_add i 2) ?_
                        refine rt_sld hx hb hX hbl hbA hS (i + 2) rfl (by omega) (by omega) d_law_267 ?_
                        refine lv_if_eq (tgt := 275) hx hb d_law_268 (by decide) (fun c_268 => ?_) (fun c_268 => ?_)
                        · refine lv_iconst (v := 0) hx hb d_law_275 (by decide) ?_
                          refine lv_aload_n hx hb d_law_276 rfl (lv_at hl 0 rfl) ?_
                          refine lv_iload_n hx hb d_law_277 rfl (lv_at hl 3 rfl) ?_
                          refine lv_iconst (v := 3) hx hb d_law_278 (by decide) ?_
                          refine lv_iadd hx hb d_law_279 ?_
                          refine rt_topi (nI (i + 3)) (nI_add i 3) ?_
                          refine rt_sld hx hb hX hbl hbA hS (i + 3) rfl (by omega) (by omega) d_law_280 ?_
                          refine lv_if_eq (tgt := 288) hx hb d_law_281 (by decide) (fun c_281 => ?_) (fun c_281 => ?_)
                          · refine lv_iconst (v := 0) hx hb d_law_288 (by decide) ?_
                            refine rt_gv (wr := [(q0, .inr (2, [.ref x1, .ref x2, .int rt, .int mk, .int sr, .int sv, .int tk])), (x1, .inr (0, [.int ((xs (i + 1)) &&& 268435455), .int ct, .int 0, .int 0])), (x2, .inr (1, [.ref x3, .ref x4, .int (nI n)])), (x3, .inl (cC, 32, .inl f)), (x4, .inl (cV, 32, .inl g))]) (rt_runV (rest := []) ⟨hx, hb, hml, hown, hts⟩ (c_Md_timer l dC dI m0 m1 m2 cE cF H.size rt ct pd cg pn mk sr sv tk n c f g (xs (i + 1)) 0 0 (Or.inl rfl) (Or.inl rfl)) (rt_gV m_286 m_287 m_288 m_13 m_289) hd_Md_timer ⟨Nat.le_of_ble_eq_true rfl, Nat.le_of_ble_eq_true rfl, rfl, rfl⟩ hP hK hD hN [0, 1, 2] [2, 3] (by decide) rfl rfl rfl rfl rfl hl.1 rfl (Nat.le_of_ble_eq_true rfl) d_law_289 ⟨Nat.le_of_ble_eq_true rfl, Nat.le_of_ble_eq_true rfl⟩) hP hD hS hA [0, 1, 2] [3, 4, 5, 6, 7] rfl rfl (by decide) (by decide) (fun u_289 H locs hw_289 hP hD hS _ => ?_)
                            obtain ⟨pd_289, cg_289, pn_289⟩ := u_289
                            try dsimp only at hw_289
                            obtain ⟨w0_289, w1_289, w2_289⟩ := hw_289
                            obtain rfl := w0_289.symm
                            obtain rfl := w1_289.symm
                            obtain rfl := w2_289.symm
                            have hP : va_P (dC, dI) classes [(q0, .inr (2, [.ref x1, .ref x2, .int rt, .int mk, .int sr, .int sv, .int tk])), (x1, .inr (0, [.int ((xs (i + 1)) &&& 268435455), .int ct, .int 0, .int 0])), (x2, .inr (1, [.ref x3, .ref x4, .int (nI n)])), (x3, .inl (cC, 32, .inl f)), (x4, .inl (cV, 32, .inl g)), (m0, .inr (3, [.int 0, .int rt, .int ct, .int ((xs (i + 1)) &&& 268435455), .int 0, .int 0, .int mk, .int sr, .int sv, .int tk, .ref m1, .ref m2, .int (nI n), .int (nI c)])), (m1, .inl (cE, 32, .inl f)), (m2, .inl (cF, 32, .inl g))] H := hP
                            have hD : va_D A [(q0, .inr (2, [.ref x1, .ref x2, .int rt, .int mk, .int sr, .int sv, .int tk])), (x1, .inr (0, [.int ((xs (i + 1)) &&& 268435455), .int ct, .int 0, .int 0])), (x2, .inr (1, [.ref x3, .ref x4, .int (nI n)])), (x3, .inl (cC, 32, .inl f)), (x4, .inl (cV, 32, .inl g)), (m0, .inr (3, [.int 0, .int rt, .int ct, .int ((xs (i + 1)) &&& 268435455), .int 0, .int 0, .int mk, .int sr, .int sv, .int tk, .ref m1, .ref m2, .int (nI n), .int (nI c)])), (m1, .inl (cE, 32, .inl f)), (m2, .inl (cF, 32, .inl g))] := hD
                            refine lv_goto (tgt := 435) hx hb d_law_292 (by decide) ?_
                            refine lv_iinc (v := (nI (i + 4))) (lv' := [(3, .int (nI (i + 4))), (0, .ref b), (1, .ref q0), (2, .ref m0)]) hx hb d_law_435 hl (k := 3) rfl (nI_add i 4) (by decide) rfl (fun ls hl => ?_)
                            refine lv_goto (tgt := 18) hx hb d_law_438 (by decide) ?_
                            exact ih (i + 4) (by omega) (by omega) rt mk sr sv tk ((xs (i + 1)) &&& 268435455) ct 0 0 n c f g (rt_I_tm hI (xs (i + 1)) (Or.inl rfl) (Or.inl rfl)) _ _ _ hP hD hS (lv_sub hl [1, 2, 3, 0] rfl)
                          · exact absurd c_246 c_281
                        · exact absurd c_233 c_268
                      · refine lv_iconst (v := 1) hx hb d_law_249 (by decide) ?_
                        refine lv_goto (tgt := 254) hx hb d_law_250 (by decide) ?_
                        refine rt_gv (wr := [(m0, .inr (3, [.int 0, .int rt, .int ct, .int pd, .int cg, .int pn, .int mk, .int sr, .int sv, .int tk, .ref m1, .ref m2, .int (nI n), .int (nI c)])), (m1, .inl (cE, 32, .inl f)), (m2, .inl (cF, 32, .inl g))]) (rt_runV (rest := []) ⟨hx, hb, hml, hown, hts⟩ (c_Rt_timer l dC dI q0 x1 x2 x3 x4 cC cV H.size rt mk sr sv tk pd ct cg pn n f g (xs (i + 1)) 0 1 (Or.inl rfl) (Or.inr rfl)) (rt_gV m_170 m_171 m_172 m_10 m_173) hd_Rt_timer ⟨Nat.le_of_ble_eq_true rfl, Nat.le_of_ble_eq_true rfl, rfl, rfl⟩ hP hK hD hN [0, 1, 2, 3, 4] [0, 1] (by decide) rfl rfl rfl rfl rfl hl.1 rfl (Nat.le_of_ble_eq_true rfl) d_law_254 ⟨Nat.le_of_ble_eq_true rfl, Nat.le_of_ble_eq_true rfl⟩) hP hD hS hA [0, 1, 2, 3, 4] [5, 6, 7] rfl rfl (by decide) (by decide) (fun u_254 H locs hw_254 hP hD hS _ => ?_)
                        obtain ⟨pd_254, cg_254, pn_254⟩ := u_254
                        try dsimp only at hw_254
                        obtain ⟨w0_254, w1_254, w2_254⟩ := hw_254
                        obtain rfl := w0_254.symm
                        obtain rfl := w1_254.symm
                        obtain rfl := w2_254.symm
                        have hP : va_P (dC, dI) classes [(m0, .inr (3, [.int 0, .int rt, .int ct, .int pd, .int cg, .int pn, .int mk, .int sr, .int sv, .int tk, .ref m1, .ref m2, .int (nI n), .int (nI c)])), (m1, .inl (cE, 32, .inl f)), (m2, .inl (cF, 32, .inl g)), (q0, .inr (2, [.ref x1, .ref x2, .int rt, .int mk, .int sr, .int sv, .int tk])), (x1, .inr (0, [.int ((xs (i + 1)) &&& 268435455), .int ct, .int 0, .int 1])), (x2, .inr (1, [.ref x3, .ref x4, .int (nI n)])), (x3, .inl (cC, 32, .inl f)), (x4, .inl (cV, 32, .inl g))] H := hP
                        have hD : va_D A [(m0, .inr (3, [.int 0, .int rt, .int ct, .int pd, .int cg, .int pn, .int mk, .int sr, .int sv, .int tk, .ref m1, .ref m2, .int (nI n), .int (nI c)])), (m1, .inl (cE, 32, .inl f)), (m2, .inl (cF, 32, .inl g)), (q0, .inr (2, [.ref x1, .ref x2, .int rt, .int mk, .int sr, .int sv, .int tk])), (x1, .inr (0, [.int ((xs (i + 1)) &&& 268435455), .int ct, .int 0, .int 1])), (x2, .inr (1, [.ref x3, .ref x4, .int (nI n)])), (x3, .inl (cC, 32, .inl f)), (x4, .inl (cV, 32, .inl g))] := hD
                        refine lv_aload_n hx hb d_law_257 rfl (lv_at hl 2 rfl) ?_
                        refine lv_aload_n hx hb d_law_258 rfl (lv_at hl 0 rfl) ?_
                        refine lv_iload_n hx hb d_law_259 rfl (lv_at hl 3 rfl) ?_
                        refine lv_iconst (v := 1) hx hb d_law_260 (by decide) ?_
                        refine lv_iadd hx hb d_law_261 ?_
                        refine rt_topi (nI (i + 1)) (nI_add i 1) ?_
                        refine rt_sld hx hb hX hbl hbA hS (i + 1) rfl (by omega) (by omega) d_law_262 ?_
                        refine lv_aload_n hx hb d_law_263 rfl (lv_at hl 0 rfl) ?_
                        refine lv_iload_n hx hb d_law_264 rfl (lv_at hl 3 rfl) ?_
                        refine lv_iconst (v := 2) hx hb d_law_265 (by decide) ?_
                        refine lv_iadd hx hb d_law_266 ?_
                        refine rt_topi (nI (i + 2)) (nI_add i 2) ?_
                        refine rt_sld hx hb hX hbl hbA hS (i + 2) rfl (by omega) (by omega) d_law_267 ?_
                        refine lv_if_eq (tgt := 275) hx hb d_law_268 (by decide) (fun c_268 => ?_) (fun c_268 => ?_)
                        · refine lv_iconst (v := 0) hx hb d_law_275 (by decide) ?_
                          refine lv_aload_n hx hb d_law_276 rfl (lv_at hl 0 rfl) ?_
                          refine lv_iload_n hx hb d_law_277 rfl (lv_at hl 3 rfl) ?_
                          refine lv_iconst (v := 3) hx hb d_law_278 (by decide) ?_
                          refine lv_iadd hx hb d_law_279 ?_
                          refine rt_topi (nI (i + 3)) (nI_add i 3) ?_
                          refine rt_sld hx hb hX hbl hbA hS (i + 3) rfl (by omega) (by omega) d_law_280 ?_
                          refine lv_if_eq (tgt := 288) hx hb d_law_281 (by decide) (fun c_281 => ?_) (fun c_281 => ?_)
                          · exact absurd c_281 c_246
                          · refine lv_iconst (v := 1) hx hb d_law_284 (by decide) ?_
                            refine lv_goto (tgt := 289) hx hb d_law_285 (by decide) ?_
                            refine rt_gv (wr := [(q0, .inr (2, [.ref x1, .ref x2, .int rt, .int mk, .int sr, .int sv, .int tk])), (x1, .inr (0, [.int ((xs (i + 1)) &&& 268435455), .int ct, .int 0, .int 1])), (x2, .inr (1, [.ref x3, .ref x4, .int (nI n)])), (x3, .inl (cC, 32, .inl f)), (x4, .inl (cV, 32, .inl g))]) (rt_runV (rest := []) ⟨hx, hb, hml, hown, hts⟩ (c_Md_timer l dC dI m0 m1 m2 cE cF H.size rt ct pd cg pn mk sr sv tk n c f g (xs (i + 1)) 0 1 (Or.inl rfl) (Or.inr rfl)) (rt_gV m_286 m_287 m_288 m_13 m_289) hd_Md_timer ⟨Nat.le_of_ble_eq_true rfl, Nat.le_of_ble_eq_true rfl, rfl, rfl⟩ hP hK hD hN [0, 1, 2] [2, 3] (by decide) rfl rfl rfl rfl rfl hl.1 rfl (Nat.le_of_ble_eq_true rfl) d_law_289 ⟨Nat.le_of_ble_eq_true rfl, Nat.le_of_ble_eq_true rfl⟩) hP hD hS hA [0, 1, 2] [3, 4, 5, 6, 7] rfl rfl (by decide) (by decide) (fun u_289 H locs hw_289 hP hD hS _ => ?_)
                            obtain ⟨pd_289, cg_289, pn_289⟩ := u_289
                            try dsimp only at hw_289
                            obtain ⟨w0_289, w1_289, w2_289⟩ := hw_289
                            obtain rfl := w0_289.symm
                            obtain rfl := w1_289.symm
                            obtain rfl := w2_289.symm
                            have hP : va_P (dC, dI) classes [(q0, .inr (2, [.ref x1, .ref x2, .int rt, .int mk, .int sr, .int sv, .int tk])), (x1, .inr (0, [.int ((xs (i + 1)) &&& 268435455), .int ct, .int 0, .int 1])), (x2, .inr (1, [.ref x3, .ref x4, .int (nI n)])), (x3, .inl (cC, 32, .inl f)), (x4, .inl (cV, 32, .inl g)), (m0, .inr (3, [.int 0, .int rt, .int ct, .int ((xs (i + 1)) &&& 268435455), .int 0, .int 1, .int mk, .int sr, .int sv, .int tk, .ref m1, .ref m2, .int (nI n), .int (nI c)])), (m1, .inl (cE, 32, .inl f)), (m2, .inl (cF, 32, .inl g))] H := hP
                            have hD : va_D A [(q0, .inr (2, [.ref x1, .ref x2, .int rt, .int mk, .int sr, .int sv, .int tk])), (x1, .inr (0, [.int ((xs (i + 1)) &&& 268435455), .int ct, .int 0, .int 1])), (x2, .inr (1, [.ref x3, .ref x4, .int (nI n)])), (x3, .inl (cC, 32, .inl f)), (x4, .inl (cV, 32, .inl g)), (m0, .inr (3, [.int 0, .int rt, .int ct, .int ((xs (i + 1)) &&& 268435455), .int 0, .int 1, .int mk, .int sr, .int sv, .int tk, .ref m1, .ref m2, .int (nI n), .int (nI c)])), (m1, .inl (cE, 32, .inl f)), (m2, .inl (cF, 32, .inl g))] := hD
                            refine lv_goto (tgt := 435) hx hb d_law_292 (by decide) ?_
                            refine lv_iinc (v := (nI (i + 4))) (lv' := [(3, .int (nI (i + 4))), (0, .ref b), (1, .ref q0), (2, .ref m0)]) hx hb d_law_435 hl (k := 3) rfl (nI_add i 4) (by decide) rfl (fun ls hl => ?_)
                            refine lv_goto (tgt := 18) hx hb d_law_438 (by decide) ?_
                            exact ih (i + 4) (by omega) (by omega) rt mk sr sv tk ((xs (i + 1)) &&& 268435455) ct 0 1 n c f g (rt_I_tm hI (xs (i + 1)) (Or.inl rfl) (Or.inr rfl)) _ _ _ hP hD hS (lv_sub hl [1, 2, 3, 0] rfl)
                        · exact absurd c_233 c_268
                    · refine lv_iconst (v := 1) hx hb d_law_236 (by decide) ?_
                      refine lv_goto (tgt := 241) hx hb d_law_237 (by decide) ?_
                      refine lv_aload_n hx hb d_law_241 rfl (lv_at hl 0 rfl) ?_
                      refine lv_iload_n hx hb d_law_242 rfl (lv_at hl 3 rfl) ?_
                      refine lv_iconst (v := 3) hx hb d_law_243 (by decide) ?_
                      refine lv_iadd hx hb d_law_244 ?_
                      refine rt_topi (nI (i + 3)) (nI_add i 3) ?_
                      refine rt_sld hx hb hX hbl hbA hS (i + 3) rfl (by omega) (by omega) d_law_245 ?_
                      refine lv_if_eq (tgt := 253) hx hb d_law_246 (by decide) (fun c_246 => ?_) (fun c_246 => ?_)
                      · refine lv_iconst (v := 0) hx hb d_law_253 (by decide) ?_
                        refine rt_gv (wr := [(m0, .inr (3, [.int 0, .int rt, .int ct, .int pd, .int cg, .int pn, .int mk, .int sr, .int sv, .int tk, .ref m1, .ref m2, .int (nI n), .int (nI c)])), (m1, .inl (cE, 32, .inl f)), (m2, .inl (cF, 32, .inl g))]) (rt_runV (rest := []) ⟨hx, hb, hml, hown, hts⟩ (c_Rt_timer l dC dI q0 x1 x2 x3 x4 cC cV H.size rt mk sr sv tk pd ct cg pn n f g (xs (i + 1)) 1 0 (Or.inr rfl) (Or.inl rfl)) (rt_gV m_170 m_171 m_172 m_10 m_173) hd_Rt_timer ⟨Nat.le_of_ble_eq_true rfl, Nat.le_of_ble_eq_true rfl, rfl, rfl⟩ hP hK hD hN [0, 1, 2, 3, 4] [0, 1] (by decide) rfl rfl rfl rfl rfl hl.1 rfl (Nat.le_of_ble_eq_true rfl) d_law_254 ⟨Nat.le_of_ble_eq_true rfl, Nat.le_of_ble_eq_true rfl⟩) hP hD hS hA [0, 1, 2, 3, 4] [5, 6, 7] rfl rfl (by decide) (by decide) (fun u_254 H locs hw_254 hP hD hS _ => ?_)
                        obtain ⟨pd_254, cg_254, pn_254⟩ := u_254
                        try dsimp only at hw_254
                        obtain ⟨w0_254, w1_254, w2_254⟩ := hw_254
                        obtain rfl := w0_254.symm
                        obtain rfl := w1_254.symm
                        obtain rfl := w2_254.symm
                        have hP : va_P (dC, dI) classes [(m0, .inr (3, [.int 0, .int rt, .int ct, .int pd, .int cg, .int pn, .int mk, .int sr, .int sv, .int tk, .ref m1, .ref m2, .int (nI n), .int (nI c)])), (m1, .inl (cE, 32, .inl f)), (m2, .inl (cF, 32, .inl g)), (q0, .inr (2, [.ref x1, .ref x2, .int rt, .int mk, .int sr, .int sv, .int tk])), (x1, .inr (0, [.int ((xs (i + 1)) &&& 268435455), .int ct, .int 1, .int 0])), (x2, .inr (1, [.ref x3, .ref x4, .int (nI n)])), (x3, .inl (cC, 32, .inl f)), (x4, .inl (cV, 32, .inl g))] H := hP
                        have hD : va_D A [(m0, .inr (3, [.int 0, .int rt, .int ct, .int pd, .int cg, .int pn, .int mk, .int sr, .int sv, .int tk, .ref m1, .ref m2, .int (nI n), .int (nI c)])), (m1, .inl (cE, 32, .inl f)), (m2, .inl (cF, 32, .inl g)), (q0, .inr (2, [.ref x1, .ref x2, .int rt, .int mk, .int sr, .int sv, .int tk])), (x1, .inr (0, [.int ((xs (i + 1)) &&& 268435455), .int ct, .int 1, .int 0])), (x2, .inr (1, [.ref x3, .ref x4, .int (nI n)])), (x3, .inl (cC, 32, .inl f)), (x4, .inl (cV, 32, .inl g))] := hD
                        refine lv_aload_n hx hb d_law_257 rfl (lv_at hl 2 rfl) ?_
                        refine lv_aload_n hx hb d_law_258 rfl (lv_at hl 0 rfl) ?_
                        refine lv_iload_n hx hb d_law_259 rfl (lv_at hl 3 rfl) ?_
                        refine lv_iconst (v := 1) hx hb d_law_260 (by decide) ?_
                        refine lv_iadd hx hb d_law_261 ?_
                        refine rt_topi (nI (i + 1)) (nI_add i 1) ?_
                        refine rt_sld hx hb hX hbl hbA hS (i + 1) rfl (by omega) (by omega) d_law_262 ?_
                        refine lv_aload_n hx hb d_law_263 rfl (lv_at hl 0 rfl) ?_
                        refine lv_iload_n hx hb d_law_264 rfl (lv_at hl 3 rfl) ?_
                        refine lv_iconst (v := 2) hx hb d_law_265 (by decide) ?_
                        refine lv_iadd hx hb d_law_266 ?_
                        refine rt_topi (nI (i + 2)) (nI_add i 2) ?_
                        refine rt_sld hx hb hX hbl hbA hS (i + 2) rfl (by omega) (by omega) d_law_267 ?_
                        refine lv_if_eq (tgt := 275) hx hb d_law_268 (by decide) (fun c_268 => ?_) (fun c_268 => ?_)
                        · exact absurd c_268 c_233
                        · refine lv_iconst (v := 1) hx hb d_law_271 (by decide) ?_
                          refine lv_goto (tgt := 276) hx hb d_law_272 (by decide) ?_
                          refine lv_aload_n hx hb d_law_276 rfl (lv_at hl 0 rfl) ?_
                          refine lv_iload_n hx hb d_law_277 rfl (lv_at hl 3 rfl) ?_
                          refine lv_iconst (v := 3) hx hb d_law_278 (by decide) ?_
                          refine lv_iadd hx hb d_law_279 ?_
                          refine rt_topi (nI (i + 3)) (nI_add i 3) ?_
                          refine rt_sld hx hb hX hbl hbA hS (i + 3) rfl (by omega) (by omega) d_law_280 ?_
                          refine lv_if_eq (tgt := 288) hx hb d_law_281 (by decide) (fun c_281 => ?_) (fun c_281 => ?_)
                          · refine lv_iconst (v := 0) hx hb d_law_288 (by decide) ?_
                            refine rt_gv (wr := [(q0, .inr (2, [.ref x1, .ref x2, .int rt, .int mk, .int sr, .int sv, .int tk])), (x1, .inr (0, [.int ((xs (i + 1)) &&& 268435455), .int ct, .int 1, .int 0])), (x2, .inr (1, [.ref x3, .ref x4, .int (nI n)])), (x3, .inl (cC, 32, .inl f)), (x4, .inl (cV, 32, .inl g))]) (rt_runV (rest := []) ⟨hx, hb, hml, hown, hts⟩ (c_Md_timer l dC dI m0 m1 m2 cE cF H.size rt ct pd cg pn mk sr sv tk n c f g (xs (i + 1)) 1 0 (Or.inr rfl) (Or.inl rfl)) (rt_gV m_286 m_287 m_288 m_13 m_289) hd_Md_timer ⟨Nat.le_of_ble_eq_true rfl, Nat.le_of_ble_eq_true rfl, rfl, rfl⟩ hP hK hD hN [0, 1, 2] [2, 3] (by decide) rfl rfl rfl rfl rfl hl.1 rfl (Nat.le_of_ble_eq_true rfl) d_law_289 ⟨Nat.le_of_ble_eq_true rfl, Nat.le_of_ble_eq_true rfl⟩) hP hD hS hA [0, 1, 2] [3, 4, 5, 6, 7] rfl rfl (by decide) (by decide) (fun u_289 H locs hw_289 hP hD hS _ => ?_)
                            obtain ⟨pd_289, cg_289, pn_289⟩ := u_289
                            try dsimp only at hw_289
                            obtain ⟨w0_289, w1_289, w2_289⟩ := hw_289
                            obtain rfl := w0_289.symm
                            obtain rfl := w1_289.symm
                            obtain rfl := w2_289.symm
                            have hP : va_P (dC, dI) classes [(q0, .inr (2, [.ref x1, .ref x2, .int rt, .int mk, .int sr, .int sv, .int tk])), (x1, .inr (0, [.int ((xs (i + 1)) &&& 268435455), .int ct, .int 1, .int 0])), (x2, .inr (1, [.ref x3, .ref x4, .int (nI n)])), (x3, .inl (cC, 32, .inl f)), (x4, .inl (cV, 32, .inl g)), (m0, .inr (3, [.int 0, .int rt, .int ct, .int ((xs (i + 1)) &&& 268435455), .int 1, .int 0, .int mk, .int sr, .int sv, .int tk, .ref m1, .ref m2, .int (nI n), .int (nI c)])), (m1, .inl (cE, 32, .inl f)), (m2, .inl (cF, 32, .inl g))] H := hP
                            have hD : va_D A [(q0, .inr (2, [.ref x1, .ref x2, .int rt, .int mk, .int sr, .int sv, .int tk])), (x1, .inr (0, [.int ((xs (i + 1)) &&& 268435455), .int ct, .int 1, .int 0])), (x2, .inr (1, [.ref x3, .ref x4, .int (nI n)])), (x3, .inl (cC, 32, .inl f)), (x4, .inl (cV, 32, .inl g)), (m0, .inr (3, [.int 0, .int rt, .int ct, .int ((xs (i + 1)) &&& 268435455), .int 1, .int 0, .int mk, .int sr, .int sv, .int tk, .ref m1, .ref m2, .int (nI n), .int (nI c)])), (m1, .inl (cE, 32, .inl f)), (m2, .inl (cF, 32, .inl g))] := hD
                            refine lv_goto (tgt := 435) hx hb d_law_292 (by decide) ?_
                            refine lv_iinc (v := (nI (i + 4))) (lv' := [(3, .int (nI (i + 4))), (0, .ref b), (1, .ref q0), (2, .ref m0)]) hx hb d_law_435 hl (k := 3) rfl (nI_add i 4) (by decide) rfl (fun ls hl => ?_)
                            refine lv_goto (tgt := 18) hx hb d_law_438 (by decide) ?_
                            exact ih (i + 4) (by omega) (by omega) rt mk sr sv tk ((xs (i + 1)) &&& 268435455) ct 1 0 n c f g (rt_I_tm hI (xs (i + 1)) (Or.inr rfl) (Or.inl rfl)) _ _ _ hP hD hS (lv_sub hl [1, 2, 3, 0] rfl)
                          · exact absurd c_246 c_281
                      · refine lv_iconst (v := 1) hx hb d_law_249 (by decide) ?_
                        refine lv_goto (tgt := 254) hx hb d_law_250 (by decide) ?_
                        refine rt_gv (wr := [(m0, .inr (3, [.int 0, .int rt, .int ct, .int pd, .int cg, .int pn, .int mk, .int sr, .int sv, .int tk, .ref m1, .ref m2, .int (nI n), .int (nI c)])), (m1, .inl (cE, 32, .inl f)), (m2, .inl (cF, 32, .inl g))]) (rt_runV (rest := []) ⟨hx, hb, hml, hown, hts⟩ (c_Rt_timer l dC dI q0 x1 x2 x3 x4 cC cV H.size rt mk sr sv tk pd ct cg pn n f g (xs (i + 1)) 1 1 (Or.inr rfl) (Or.inr rfl)) (rt_gV m_170 m_171 m_172 m_10 m_173) hd_Rt_timer ⟨Nat.le_of_ble_eq_true rfl, Nat.le_of_ble_eq_true rfl, rfl, rfl⟩ hP hK hD hN [0, 1, 2, 3, 4] [0, 1] (by decide) rfl rfl rfl rfl rfl hl.1 rfl (Nat.le_of_ble_eq_true rfl) d_law_254 ⟨Nat.le_of_ble_eq_true rfl, Nat.le_of_ble_eq_true rfl⟩) hP hD hS hA [0, 1, 2, 3, 4] [5, 6, 7] rfl rfl (by decide) (by decide) (fun u_254 H locs hw_254 hP hD hS _ => ?_)
                        obtain ⟨pd_254, cg_254, pn_254⟩ := u_254
                        try dsimp only at hw_254
                        obtain ⟨w0_254, w1_254, w2_254⟩ := hw_254
                        obtain rfl := w0_254.symm
                        obtain rfl := w1_254.symm
                        obtain rfl := w2_254.symm
                        have hP : va_P (dC, dI) classes [(m0, .inr (3, [.int 0, .int rt, .int ct, .int pd, .int cg, .int pn, .int mk, .int sr, .int sv, .int tk, .ref m1, .ref m2, .int (nI n), .int (nI c)])), (m1, .inl (cE, 32, .inl f)), (m2, .inl (cF, 32, .inl g)), (q0, .inr (2, [.ref x1, .ref x2, .int rt, .int mk, .int sr, .int sv, .int tk])), (x1, .inr (0, [.int ((xs (i + 1)) &&& 268435455), .int ct, .int 1, .int 1])), (x2, .inr (1, [.ref x3, .ref x4, .int (nI n)])), (x3, .inl (cC, 32, .inl f)), (x4, .inl (cV, 32, .inl g))] H := hP
                        have hD : va_D A [(m0, .inr (3, [.int 0, .int rt, .int ct, .int pd, .int cg, .int pn, .int mk, .int sr, .int sv, .int tk, .ref m1, .ref m2, .int (nI n), .int (nI c)])), (m1, .inl (cE, 32, .inl f)), (m2, .inl (cF, 32, .inl g)), (q0, .inr (2, [.ref x1, .ref x2, .int rt, .int mk, .int sr, .int sv, .int tk])), (x1, .inr (0, [.int ((xs (i + 1)) &&& 268435455), .int ct, .int 1, .int 1])), (x2, .inr (1, [.ref x3, .ref x4, .int (nI n)])), (x3, .inl (cC, 32, .inl f)), (x4, .inl (cV, 32, .inl g))] := hD
                        refine lv_aload_n hx hb d_law_257 rfl (lv_at hl 2 rfl) ?_
                        refine lv_aload_n hx hb d_law_258 rfl (lv_at hl 0 rfl) ?_
                        refine lv_iload_n hx hb d_law_259 rfl (lv_at hl 3 rfl) ?_
                        refine lv_iconst (v := 1) hx hb d_law_260 (by decide) ?_
                        refine lv_iadd hx hb d_law_261 ?_
                        refine rt_topi (nI (i + 1)) (nI_add i 1) ?_
                        refine rt_sld hx hb hX hbl hbA hS (i + 1) rfl (by omega) (by omega) d_law_262 ?_
                        refine lv_aload_n hx hb d_law_263 rfl (lv_at hl 0 rfl) ?_
                        refine lv_iload_n hx hb d_law_264 rfl (lv_at hl 3 rfl) ?_
                        refine lv_iconst (v := 2) hx hb d_law_265 (by decide) ?_
                        refine lv_iadd hx hb d_law_266 ?_
                        refine rt_topi (nI (i + 2)) (nI_add i 2) ?_
                        refine rt_sld hx hb hX hbl hbA hS (i + 2) rfl (by omega) (by omega) d_law_267 ?_
                        refine lv_if_eq (tgt := 275) hx hb d_law_268 (by decide) (fun c_268 => ?_) (fun c_268 => ?_)
                        · exact absurd c_268 c_233
                        · refine lv_iconst (v := 1) hx hb d_law_271 (by decide) ?_
                          refine lv_goto (tgt := 276) hx hb d_law_272 (by decide) ?_
                          refine lv_aload_n hx hb d_law_276 rfl (lv_at hl 0 rfl) ?_
                          refine lv_iload_n hx hb d_law_277 rfl (lv_at hl 3 rfl) ?_
                          refine lv_iconst (v := 3) hx hb d_law_278 (by decide) ?_
                          refine lv_iadd hx hb d_law_279 ?_
                          refine rt_topi (nI (i + 3)) (nI_add i 3) ?_
                          refine rt_sld hx hb hX hbl hbA hS (i + 3) rfl (by omega) (by omega) d_law_280 ?_
                          refine lv_if_eq (tgt := 288) hx hb d_law_281 (by decide) (fun c_281 => ?_) (fun c_281 => ?_)
                          · exact absurd c_281 c_246
                          · refine lv_iconst (v := 1) hx hb d_law_284 (by decide) ?_
                            refine lv_goto (tgt := 289) hx hb d_law_285 (by decide) ?_
                            refine rt_gv (wr := [(q0, .inr (2, [.ref x1, .ref x2, .int rt, .int mk, .int sr, .int sv, .int tk])), (x1, .inr (0, [.int ((xs (i + 1)) &&& 268435455), .int ct, .int 1, .int 1])), (x2, .inr (1, [.ref x3, .ref x4, .int (nI n)])), (x3, .inl (cC, 32, .inl f)), (x4, .inl (cV, 32, .inl g))]) (rt_runV (rest := []) ⟨hx, hb, hml, hown, hts⟩ (c_Md_timer l dC dI m0 m1 m2 cE cF H.size rt ct pd cg pn mk sr sv tk n c f g (xs (i + 1)) 1 1 (Or.inr rfl) (Or.inr rfl)) (rt_gV m_286 m_287 m_288 m_13 m_289) hd_Md_timer ⟨Nat.le_of_ble_eq_true rfl, Nat.le_of_ble_eq_true rfl, rfl, rfl⟩ hP hK hD hN [0, 1, 2] [2, 3] (by decide) rfl rfl rfl rfl rfl hl.1 rfl (Nat.le_of_ble_eq_true rfl) d_law_289 ⟨Nat.le_of_ble_eq_true rfl, Nat.le_of_ble_eq_true rfl⟩) hP hD hS hA [0, 1, 2] [3, 4, 5, 6, 7] rfl rfl (by decide) (by decide) (fun u_289 H locs hw_289 hP hD hS _ => ?_)
                            obtain ⟨pd_289, cg_289, pn_289⟩ := u_289
                            try dsimp only at hw_289
                            obtain ⟨w0_289, w1_289, w2_289⟩ := hw_289
                            obtain rfl := w0_289.symm
                            obtain rfl := w1_289.symm
                            obtain rfl := w2_289.symm
                            have hP : va_P (dC, dI) classes [(q0, .inr (2, [.ref x1, .ref x2, .int rt, .int mk, .int sr, .int sv, .int tk])), (x1, .inr (0, [.int ((xs (i + 1)) &&& 268435455), .int ct, .int 1, .int 1])), (x2, .inr (1, [.ref x3, .ref x4, .int (nI n)])), (x3, .inl (cC, 32, .inl f)), (x4, .inl (cV, 32, .inl g)), (m0, .inr (3, [.int 0, .int rt, .int ct, .int ((xs (i + 1)) &&& 268435455), .int 1, .int 1, .int mk, .int sr, .int sv, .int tk, .ref m1, .ref m2, .int (nI n), .int (nI c)])), (m1, .inl (cE, 32, .inl f)), (m2, .inl (cF, 32, .inl g))] H := hP
                            have hD : va_D A [(q0, .inr (2, [.ref x1, .ref x2, .int rt, .int mk, .int sr, .int sv, .int tk])), (x1, .inr (0, [.int ((xs (i + 1)) &&& 268435455), .int ct, .int 1, .int 1])), (x2, .inr (1, [.ref x3, .ref x4, .int (nI n)])), (x3, .inl (cC, 32, .inl f)), (x4, .inl (cV, 32, .inl g)), (m0, .inr (3, [.int 0, .int rt, .int ct, .int ((xs (i + 1)) &&& 268435455), .int 1, .int 1, .int mk, .int sr, .int sv, .int tk, .ref m1, .ref m2, .int (nI n), .int (nI c)])), (m1, .inl (cE, 32, .inl f)), (m2, .inl (cF, 32, .inl g))] := hD
                            refine lv_goto (tgt := 435) hx hb d_law_292 (by decide) ?_
                            refine lv_iinc (v := (nI (i + 4))) (lv' := [(3, .int (nI (i + 4))), (0, .ref b), (1, .ref q0), (2, .ref m0)]) hx hb d_law_435 hl (k := 3) rfl (nI_add i 4) (by decide) rfl (fun ls hl => ?_)
                            refine lv_goto (tgt := 18) hx hb d_law_438 (by decide) ?_
                            exact ih (i + 4) (by omega) (by omega) rt mk sr sv tk ((xs (i + 1)) &&& 268435455) ct 1 1 n c f g (rt_I_tm hI (xs (i + 1)) (Or.inr rfl) (Or.inr rfl)) _ _ _ hP hD hS (lv_sub hl [1, 2, 3, 0] rfl)
                  · skip
                    by_cases e_7 : ((xs i) &&& 15) = 7
                    · refine rt_topi 7 e_7 ?_
                      refine lv_tableIn (tgt := 295) hx hb d_law_32 (by decide) (by decide) rfl (by decide) ?_
                      refine lv_aload_n hx hb d_law_295 rfl (lv_at hl 1 rfl) ?_
                      refine lv_aload_n hx hb d_law_296 rfl (lv_at hl 0 rfl) ?_
                      refine lv_iload_n hx hb d_law_297 rfl (lv_at hl 3 rfl) ?_
                      refine lv_iconst (v := 1) hx hb d_law_298 (by decide) ?_
                      refine lv_iadd hx hb d_law_299 ?_
                      refine rt_topi (nI (i + 1)) (nI_add i 1) ?_
                      refine rt_sld hx hb hX hbl hbA hS (i + 1) rfl (by omega) (by omega) d_law_300 ?_
                      refine rt_gv (wr := [(m0, .inr (3, [.int 0, .int rt, .int ct, .int pd, .int cg, .int pn, .int mk, .int sr, .int sv, .int tk, .ref m1, .ref m2, .int (nI n), .int (nI c)])), (m1, .inl (cE, 32, .inl f)), (m2, .inl (cF, 32, .inl g))]) (rt_runV (rest := []) ⟨hx, hb, hml, hown, hts⟩ (c_Rt_count l dC dI q0 x1 x2 x3 x4 cC cV H.size rt mk sr sv tk pd ct cg pn n f g (xs (i + 1))) (rt_gV m_175 m_176 m_177 m_10 m_178) hd_Rt_count ⟨Nat.le_of_ble_eq_true rfl, Nat.le_of_ble_eq_true rfl, rfl, rfl⟩ hP hK hD hN [0, 1, 2, 3, 4] [0, 1] (by decide) rfl rfl rfl rfl rfl hl.1 rfl (Nat.le_of_ble_eq_true rfl) d_law_301 ⟨Nat.le_of_ble_eq_true rfl, Nat.le_of_ble_eq_true rfl⟩) hP hD hS hA [0, 1, 2, 3, 4] [5, 6, 7] rfl rfl (by decide) (by decide) (fun ct_301 H locs hw_301 hP hD hS _ => ?_)
                      try dsimp only at hw_301
                      have w0_301 := hw_301
                      obtain rfl := w0_301.symm
                      have hP : va_P (dC, dI) classes [(m0, .inr (3, [.int 0, .int rt, .int ct, .int pd, .int cg, .int pn, .int mk, .int sr, .int sv, .int tk, .ref m1, .ref m2, .int (nI n), .int (nI c)])), (m1, .inl (cE, 32, .inl f)), (m2, .inl (cF, 32, .inl g)), (q0, .inr (2, [.ref x1, .ref x2, .int rt, .int mk, .int sr, .int sv, .int tk])), (x1, .inr (0, [.int pd, .int (xs (i + 1)), .int cg, .int pn])), (x2, .inr (1, [.ref x3, .ref x4, .int (nI n)])), (x3, .inl (cC, 32, .inl f)), (x4, .inl (cV, 32, .inl g))] H := hP
                      have hD : va_D A [(m0, .inr (3, [.int 0, .int rt, .int ct, .int pd, .int cg, .int pn, .int mk, .int sr, .int sv, .int tk, .ref m1, .ref m2, .int (nI n), .int (nI c)])), (m1, .inl (cE, 32, .inl f)), (m2, .inl (cF, 32, .inl g)), (q0, .inr (2, [.ref x1, .ref x2, .int rt, .int mk, .int sr, .int sv, .int tk])), (x1, .inr (0, [.int pd, .int (xs (i + 1)), .int cg, .int pn])), (x2, .inr (1, [.ref x3, .ref x4, .int (nI n)])), (x3, .inl (cC, 32, .inl f)), (x4, .inl (cV, 32, .inl g))] := hD
                      refine lv_aload_n hx hb d_law_304 rfl (lv_at hl 2 rfl) ?_
                      refine lv_aload_n hx hb d_law_305 rfl (lv_at hl 0 rfl) ?_
                      refine lv_iload_n hx hb d_law_306 rfl (lv_at hl 3 rfl) ?_
                      refine lv_iconst (v := 1) hx hb d_law_307 (by decide) ?_
                      refine lv_iadd hx hb d_law_308 ?_
                      refine rt_topi (nI (i + 1)) (nI_add i 1) ?_
                      refine rt_sld hx hb hX hbl hbA hS (i + 1) rfl (by omega) (by omega) d_law_309 ?_
                      refine rt_gv (wr := [(q0, .inr (2, [.ref x1, .ref x2, .int rt, .int mk, .int sr, .int sv, .int tk])), (x1, .inr (0, [.int pd, .int (xs (i + 1)), .int cg, .int pn])), (x2, .inr (1, [.ref x3, .ref x4, .int (nI n)])), (x3, .inl (cC, 32, .inl f)), (x4, .inl (cV, 32, .inl g))]) (rt_runV (rest := []) ⟨hx, hb, hml, hown, hts⟩ (c_Md_count l dC dI m0 m1 m2 cE cF H.size rt ct pd cg pn mk sr sv tk n c f g (xs (i + 1))) (rt_gV m_291 m_292 m_293 m_13 m_294) hd_Md_count ⟨Nat.le_of_ble_eq_true rfl, Nat.le_of_ble_eq_true rfl, rfl, rfl⟩ hP hK hD hN [0, 1, 2] [2, 3] (by decide) rfl rfl rfl rfl rfl hl.1 rfl (Nat.le_of_ble_eq_true rfl) d_law_310 ⟨Nat.le_of_ble_eq_true rfl, Nat.le_of_ble_eq_true rfl⟩) hP hD hS hA [0, 1, 2] [3, 4, 5, 6, 7] rfl rfl (by decide) (by decide) (fun ct_310 H locs hw_310 hP hD hS _ => ?_)
                      try dsimp only at hw_310
                      have w0_310 := hw_310
                      obtain rfl := w0_310.symm
                      have hP : va_P (dC, dI) classes [(q0, .inr (2, [.ref x1, .ref x2, .int rt, .int mk, .int sr, .int sv, .int tk])), (x1, .inr (0, [.int pd, .int (xs (i + 1)), .int cg, .int pn])), (x2, .inr (1, [.ref x3, .ref x4, .int (nI n)])), (x3, .inl (cC, 32, .inl f)), (x4, .inl (cV, 32, .inl g)), (m0, .inr (3, [.int 0, .int rt, .int (xs (i + 1)), .int pd, .int cg, .int pn, .int mk, .int sr, .int sv, .int tk, .ref m1, .ref m2, .int (nI n), .int (nI c)])), (m1, .inl (cE, 32, .inl f)), (m2, .inl (cF, 32, .inl g))] H := hP
                      have hD : va_D A [(q0, .inr (2, [.ref x1, .ref x2, .int rt, .int mk, .int sr, .int sv, .int tk])), (x1, .inr (0, [.int pd, .int (xs (i + 1)), .int cg, .int pn])), (x2, .inr (1, [.ref x3, .ref x4, .int (nI n)])), (x3, .inl (cC, 32, .inl f)), (x4, .inl (cV, 32, .inl g)), (m0, .inr (3, [.int 0, .int rt, .int (xs (i + 1)), .int pd, .int cg, .int pn, .int mk, .int sr, .int sv, .int tk, .ref m1, .ref m2, .int (nI n), .int (nI c)])), (m1, .inl (cE, 32, .inl f)), (m2, .inl (cF, 32, .inl g))] := hD
                      refine lv_goto (tgt := 435) hx hb d_law_313 (by decide) ?_
                      refine lv_iinc (v := (nI (i + 4))) (lv' := [(3, .int (nI (i + 4))), (0, .ref b), (1, .ref q0), (2, .ref m0)]) hx hb d_law_435 hl (k := 3) rfl (nI_add i 4) (by decide) rfl (fun ls hl => ?_)
                      refine lv_goto (tgt := 18) hx hb d_law_438 (by decide) ?_
                      exact ih (i + 4) (by omega) (by omega) rt mk sr sv tk pd (xs (i + 1)) cg pn n c f g hI _ _ _ hP hD hS (lv_sub hl [1, 2, 3, 0] rfl)
                    · skip
                      by_cases e_8 : ((xs i) &&& 15) = 8
                      · refine rt_topi 8 e_8 ?_
                        refine lv_tableIn (tgt := 316) hx hb d_law_32 (by decide) (by decide) rfl (by decide) ?_
                        refine lv_aload_n hx hb d_law_316 rfl (lv_at hl 1 rfl) ?_
                        refine rt_gv (wr := [(m0, .inr (3, [.int 0, .int rt, .int ct, .int pd, .int cg, .int pn, .int mk, .int sr, .int sv, .int tk, .ref m1, .ref m2, .int (nI n), .int (nI c)])), (m1, .inl (cE, 32, .inl f)), (m2, .inl (cF, 32, .inl g))]) (rt_runV (rest := []) ⟨hx, hb, hml, hown, hts⟩ (c_Rt_reset l dC dI q0 x1 x2 x3 x4 cC cV H.size rt mk sr sv tk pd ct cg pn n f g) (rt_gV m_96 m_67 m_68 m_10 m_69) hd_Rt_reset ⟨Nat.le_of_ble_eq_true rfl, Nat.le_of_ble_eq_true rfl, rfl, rfl⟩ hP hK hD hN [0, 1, 2, 3, 4] [0, 1] (by decide) rfl rfl rfl rfl rfl hl.1 rfl (Nat.le_of_ble_eq_true rfl) d_law_317 ⟨Nat.le_of_ble_eq_true rfl, Nat.le_of_ble_eq_true rfl⟩) hP hD hS hA [0, 1, 2, 3, 4] [5, 6, 7] rfl rfl (by decide) (by decide) (fun u_317 H locs hw_317 hP hD hS _ => ?_)
                        obtain ⟨rt_317, mk_317, sr_317, sv_317, tk_317, pd_317, ct_317, cg_317, pn_317, n_317⟩ := u_317
                        try dsimp only at hw_317
                        obtain ⟨w0_317, w1_317, w2_317, w3_317, w4_317, w5_317, w6_317, w7_317, w8_317, w9_317⟩ := hw_317
                        obtain rfl := w0_317.symm
                        obtain rfl := w1_317.symm
                        obtain rfl := w2_317.symm
                        obtain rfl := w3_317.symm
                        obtain rfl := w4_317.symm
                        obtain rfl := w5_317.symm
                        obtain rfl := w6_317.symm
                        obtain rfl := w7_317.symm
                        obtain rfl := w8_317.symm
                        obtain rfl := w9_317.symm
                        have hP : va_P (dC, dI) classes [(m0, .inr (3, [.int 0, .int rt, .int ct, .int pd, .int cg, .int pn, .int mk, .int sr, .int sv, .int tk, .ref m1, .ref m2, .int (nI n), .int (nI c)])), (m1, .inl (cE, 32, .inl f)), (m2, .inl (cF, 32, .inl g)), (q0, .inr (2, [.ref x1, .ref x2, .int 0, .int 0, .int 1, .int 0, .int 0])), (x1, .inr (0, [.int 0, .int 0, .int 0, .int 0])), (x2, .inr (1, [.ref x3, .ref x4, .int (nI 0)])), (x3, .inl (cC, 32, .inl f)), (x4, .inl (cV, 32, .inl g))] H := hP
                        have hD : va_D A [(m0, .inr (3, [.int 0, .int rt, .int ct, .int pd, .int cg, .int pn, .int mk, .int sr, .int sv, .int tk, .ref m1, .ref m2, .int (nI n), .int (nI c)])), (m1, .inl (cE, 32, .inl f)), (m2, .inl (cF, 32, .inl g)), (q0, .inr (2, [.ref x1, .ref x2, .int 0, .int 0, .int 1, .int 0, .int 0])), (x1, .inr (0, [.int 0, .int 0, .int 0, .int 0])), (x2, .inr (1, [.ref x3, .ref x4, .int (nI 0)])), (x3, .inl (cC, 32, .inl f)), (x4, .inl (cV, 32, .inl g))] := hD
                        refine lv_aload_n hx hb d_law_320 rfl (lv_at hl 2 rfl) ?_
                        refine rt_gv (wr := [(q0, .inr (2, [.ref x1, .ref x2, .int 0, .int 0, .int 1, .int 0, .int 0])), (x1, .inr (0, [.int 0, .int 0, .int 0, .int 0])), (x2, .inr (1, [.ref x3, .ref x4, .int (nI 0)])), (x3, .inl (cC, 32, .inl f)), (x4, .inl (cV, 32, .inl g))]) (rt_runV (rest := []) ⟨hx, hb, hml, hown, hts⟩ (c_Md_reset l dC dI m0 m1 m2 cE cF H.size rt ct pd cg pn mk sr sv tk n c f g) (rt_gV m_295 m_296 m_297 m_13 m_298) hd_Md_reset ⟨Nat.le_of_ble_eq_true rfl, Nat.le_of_ble_eq_true rfl, rfl, rfl⟩ hP hK hD hN [0, 1, 2] [2, 3] (by decide) rfl rfl rfl rfl rfl hl.1 rfl (Nat.le_of_ble_eq_true rfl) d_law_321 ⟨Nat.le_of_ble_eq_true rfl, Nat.le_of_ble_eq_true rfl⟩) hP hD hS hA [0, 1, 2] [3, 4, 5, 6, 7] rfl rfl (by decide) (by decide) (fun u_321 H locs hw_321 hP hD hS _ => ?_)
                        obtain ⟨rt_321, mk_321, sr_321, sv_321, tk_321, pd_321, ct_321, cg_321, pn_321, n_321, c_321⟩ := u_321
                        try dsimp only at hw_321
                        obtain ⟨w0_321, w1_321, w2_321, w3_321, w4_321, w5_321, w6_321, w7_321, w8_321, w9_321, w10_321⟩ := hw_321
                        obtain rfl := w0_321.symm
                        obtain rfl := w1_321.symm
                        obtain rfl := w2_321.symm
                        obtain rfl := w3_321.symm
                        obtain rfl := w4_321.symm
                        obtain rfl := w5_321.symm
                        obtain rfl := w6_321.symm
                        obtain rfl := w7_321.symm
                        obtain rfl := w8_321.symm
                        obtain rfl := w9_321.symm
                        obtain rfl := w10_321.symm
                        have hP : va_P (dC, dI) classes [(q0, .inr (2, [.ref x1, .ref x2, .int 0, .int 0, .int 1, .int 0, .int 0])), (x1, .inr (0, [.int 0, .int 0, .int 0, .int 0])), (x2, .inr (1, [.ref x3, .ref x4, .int (nI 0)])), (x3, .inl (cC, 32, .inl f)), (x4, .inl (cV, 32, .inl g)), (m0, .inr (3, [.int 0, .int 0, .int 0, .int 0, .int 0, .int 0, .int 0, .int 1, .int 0, .int 0, .ref m1, .ref m2, .int (nI 0), .int (nI 0)])), (m1, .inl (cE, 32, .inl f)), (m2, .inl (cF, 32, .inl g))] H := hP
                        have hD : va_D A [(q0, .inr (2, [.ref x1, .ref x2, .int 0, .int 0, .int 1, .int 0, .int 0])), (x1, .inr (0, [.int 0, .int 0, .int 0, .int 0])), (x2, .inr (1, [.ref x3, .ref x4, .int (nI 0)])), (x3, .inl (cC, 32, .inl f)), (x4, .inl (cV, 32, .inl g)), (m0, .inr (3, [.int 0, .int 0, .int 0, .int 0, .int 0, .int 0, .int 0, .int 1, .int 0, .int 0, .ref m1, .ref m2, .int (nI 0), .int (nI 0)])), (m1, .inl (cE, 32, .inl f)), (m2, .inl (cF, 32, .inl g))] := hD
                        refine lv_goto (tgt := 435) hx hb d_law_324 (by decide) ?_
                        refine lv_iinc (v := (nI (i + 4))) (lv' := [(3, .int (nI (i + 4))), (0, .ref b), (1, .ref q0), (2, .ref m0)]) hx hb d_law_435 hl (k := 3) rfl (nI_add i 4) (by decide) rfl (fun ls hl => ?_)
                        refine lv_goto (tgt := 18) hx hb d_law_438 (by decide) ?_
                        exact ih (i + 4) (by omega) (by omega) 0 0 1 0 0 0 0 0 0 0 0 f g (rt_I_re f) _ _ _ hP hD hS (lv_sub hl [1, 2, 3, 0] rfl)
                      · skip
                        by_cases e_9 : ((xs i) &&& 15) = 9
                        · refine rt_topi 9 e_9 ?_
                          refine lv_tableIn (tgt := 327) hx hb d_law_32 (by decide) (by decide) rfl (by decide) ?_
                          refine lv_aload_n hx hb d_law_327 rfl (lv_at hl 1 rfl) ?_
                          refine rt_gi (wr := [(m0, .inr (3, [.int 0, .int rt, .int ct, .int pd, .int cg, .int pn, .int mk, .int sr, .int sv, .int tk, .ref m1, .ref m2, .int (nI n), .int (nI c)])), (m1, .inl (cE, 32, .inl f)), (m2, .inl (cF, 32, .inl g))]) (rt_runV (rest := []) ⟨hx, hb, hml, hown, hts⟩ (c_Rt_until l dC dI q0 x1 x2 x3 x4 cC cV H.size rt mk sr sv tk pd ct cg pn n f g c k hn hc hk) (rt_gV m_179 m_180 m_181 m_10 m_182) hd_Rt_until ⟨Nat.le_of_ble_eq_true rfl, Nat.le_of_ble_eq_true rfl, rfl, rfl⟩ hP hK hD hN [0, 1, 2, 3, 4] [0, 1] (by decide) rfl rfl rfl rfl rfl hl.1 rfl (Nat.le_of_ble_eq_true rfl) d_law_328 ⟨Nat.le_of_ble_eq_true rfl, Nat.le_of_ble_eq_true rfl⟩) hP hD hS hA [0, 1, 2, 3, 4] [5, 6, 7] rfl rfl (by decide) (by decide) (fun r_328 u_328 H locs hw_328 hP hD hS _ => ?_)
                          try dsimp only at hw_328
                          have w0_328 := hw_328
                          obtain rfl := w0_328.symm
                          have hP : va_P (dC, dI) classes [(m0, .inr (3, [.int 0, .int rt, .int ct, .int pd, .int cg, .int pn, .int mk, .int sr, .int sv, .int tk, .ref m1, .ref m2, .int (nI n), .int (nI c)])), (m1, .inl (cE, 32, .inl f)), (m2, .inl (cF, 32, .inl g)), (q0, .inr (2, [.ref x1, .ref x2, .int rt, .int mk, .int sr, .int sv, .int tk])), (x1, .inr (0, [.int pd, .int ct, .int cg, .int pn])), (x2, .inr (1, [.ref x3, .ref x4, .int (nI n)])), (x3, .inl (cC, 32, .inl f)), (x4, .inl (cV, 32, .inl g))] H := hP
                          have hD : va_D A [(m0, .inr (3, [.int 0, .int rt, .int ct, .int pd, .int cg, .int pn, .int mk, .int sr, .int sv, .int tk, .ref m1, .ref m2, .int (nI n), .int (nI c)])), (m1, .inl (cE, 32, .inl f)), (m2, .inl (cF, 32, .inl g)), (q0, .inr (2, [.ref x1, .ref x2, .int rt, .int mk, .int sr, .int sv, .int tk])), (x1, .inr (0, [.int pd, .int ct, .int cg, .int pn])), (x2, .inr (1, [.ref x3, .ref x4, .int (nI n)])), (x3, .inl (cC, 32, .inl f)), (x4, .inl (cV, 32, .inl g))] := hD
                          refine lv_aload_n hx hb d_law_331 rfl (lv_at hl 2 rfl) ?_
                          refine rt_gi (wr := [(q0, .inr (2, [.ref x1, .ref x2, .int rt, .int mk, .int sr, .int sv, .int tk])), (x1, .inr (0, [.int pd, .int ct, .int cg, .int pn])), (x2, .inr (1, [.ref x3, .ref x4, .int (nI n)])), (x3, .inl (cC, 32, .inl f)), (x4, .inl (cV, 32, .inl g))]) (rt_runV (rest := [.int (rt_un rt (rt_w sr pd ct cg pn rt mk n f g c k))]) ⟨hx, hb, hml, hown, hts⟩ (c_Md_until l dC dI m0 m1 m2 cE cF H.size rt ct pd cg pn mk sr sv tk n c f g k hI hk) (rt_gV m_299 m_300 m_301 m_13 m_302) hd_Md_until ⟨Nat.le_of_ble_eq_true rfl, Nat.le_of_ble_eq_true rfl, rfl, rfl⟩ hP hK hD hN [0, 1, 2] [2, 3] (by decide) rfl rfl rfl rfl rfl hl.1 rfl (Nat.le_of_ble_eq_true rfl) d_law_332 ⟨Nat.le_of_ble_eq_true rfl, Nat.le_of_ble_eq_true rfl⟩) hP hD hS hA [0, 1, 2] [3, 4, 5, 6, 7] rfl rfl (by decide) (by decide) (fun r_332 u_332 H locs hw_332 hP hD hS _ => ?_)
                          try dsimp only at hw_332
                          have w0_332 := hw_332
                          obtain rfl := w0_332.symm
                          have hP : va_P (dC, dI) classes [(q0, .inr (2, [.ref x1, .ref x2, .int rt, .int mk, .int sr, .int sv, .int tk])), (x1, .inr (0, [.int pd, .int ct, .int cg, .int pn])), (x2, .inr (1, [.ref x3, .ref x4, .int (nI n)])), (x3, .inl (cC, 32, .inl f)), (x4, .inl (cV, 32, .inl g)), (m0, .inr (3, [.int 0, .int rt, .int ct, .int pd, .int cg, .int pn, .int mk, .int sr, .int sv, .int tk, .ref m1, .ref m2, .int (nI n), .int (nI c)])), (m1, .inl (cE, 32, .inl f)), (m2, .inl (cF, 32, .inl g))] H := hP
                          have hD : va_D A [(q0, .inr (2, [.ref x1, .ref x2, .int rt, .int mk, .int sr, .int sv, .int tk])), (x1, .inr (0, [.int pd, .int ct, .int cg, .int pn])), (x2, .inr (1, [.ref x3, .ref x4, .int (nI n)])), (x3, .inl (cC, 32, .inl f)), (x4, .inl (cV, 32, .inl g)), (m0, .inr (3, [.int 0, .int rt, .int ct, .int pd, .int cg, .int pn, .int mk, .int sr, .int sv, .int tk, .ref m1, .ref m2, .int (nI n), .int (nI c)])), (m1, .inl (cE, 32, .inl f)), (m2, .inl (cF, 32, .inl g))] := hD
                          refine lv_icmp_eq (tgt := 435) hx hb d_law_335 (by decide) (fun c_335 => ?_) (fun c_335 => ?_)
                          · refine lv_iinc (v := (nI (i + 4))) (lv' := [(3, .int (nI (i + 4))), (0, .ref b), (1, .ref q0), (2, .ref m0)]) hx hb d_law_435 hl (k := 3) rfl (nI_add i 4) (by decide) rfl (fun ls hl => ?_)
                            refine lv_goto (tgt := 18) hx hb d_law_438 (by decide) ?_
                            exact ih (i + 4) (by omega) (by omega) rt mk sr sv tk pd ct cg pn n c f g hI _ _ _ hP hD hS (lv_sub hl [1, 2, 3, 0] rfl)
                          · exact absurd rfl c_335
                        · skip
                          by_cases e_10 : ((xs i) &&& 15) = 10
                          · refine rt_topi 10 e_10 ?_
                            refine lv_tableIn (tgt := 340) hx hb d_law_32 (by decide) (by decide) rfl (by decide) ?_
                            obtain ⟨ca, hca⟩ := rt_cut_ex hs (xs (i + 1))
                            refine lv_aload_n hx hb d_law_340 rfl (lv_at hl 1 rfl) ?_
                            refine lv_aload_n hx hb d_law_341 rfl (lv_at hl 0 rfl) ?_
                            refine lv_iload_n hx hb d_law_342 rfl (lv_at hl 3 rfl) ?_
                            refine lv_iconst (v := 1) hx hb d_law_343 (by decide) ?_
                            refine lv_iadd hx hb d_law_344 ?_
                            refine rt_topi (nI (i + 1)) (nI_add i 1) ?_
                            refine rt_sld hx hb hX hbl hbA hS (i + 1) rfl (by omega) (by omega) d_law_345 ?_
                            refine rt_gi (wr := [(m0, .inr (3, [.int 0, .int rt, .int ct, .int pd, .int cg, .int pn, .int mk, .int sr, .int sv, .int tk, .ref m1, .ref m2, .int (nI n), .int (nI c)])), (m1, .inl (cE, 32, .inl f)), (m2, .inl (cF, 32, .inl g))]) (rt_runV (rest := []) ⟨hx, hb, hml, hown, hts⟩ (c_Rt_linesAt l dC dI q0 x1 x2 x3 x4 cC cV H.size rt mk sr sv tk pd ct cg pn n f g (xs (i + 1)) ca hn hca) (rt_gV m_183 m_184 m_185 m_10 m_186) hd_Rt_linesAt ⟨Nat.le_of_ble_eq_true rfl, Nat.le_of_ble_eq_true rfl, rfl, rfl⟩ hP hK hD hN [0, 1, 2, 3, 4] [0, 1] (by decide) rfl rfl rfl rfl rfl hl.1 rfl (Nat.le_of_ble_eq_true rfl) d_law_346 ⟨Nat.le_of_ble_eq_true rfl, Nat.le_of_ble_eq_true rfl⟩) hP hD hS hA [0, 1, 2, 3, 4] [5, 6, 7] rfl rfl (by decide) (by decide) (fun r_346 u_346 H locs hw_346 hP hD hS _ => ?_)
                            try dsimp only at hw_346
                            have w0_346 := hw_346
                            obtain rfl := w0_346.symm
                            have hP : va_P (dC, dI) classes [(m0, .inr (3, [.int 0, .int rt, .int ct, .int pd, .int cg, .int pn, .int mk, .int sr, .int sv, .int tk, .ref m1, .ref m2, .int (nI n), .int (nI c)])), (m1, .inl (cE, 32, .inl f)), (m2, .inl (cF, 32, .inl g)), (q0, .inr (2, [.ref x1, .ref x2, .int rt, .int mk, .int sr, .int sv, .int tk])), (x1, .inr (0, [.int pd, .int ct, .int cg, .int pn])), (x2, .inr (1, [.ref x3, .ref x4, .int (nI n)])), (x3, .inl (cC, 32, .inl f)), (x4, .inl (cV, 32, .inl g))] H := hP
                            have hD : va_D A [(m0, .inr (3, [.int 0, .int rt, .int ct, .int pd, .int cg, .int pn, .int mk, .int sr, .int sv, .int tk, .ref m1, .ref m2, .int (nI n), .int (nI c)])), (m1, .inl (cE, 32, .inl f)), (m2, .inl (cF, 32, .inl g)), (q0, .inr (2, [.ref x1, .ref x2, .int rt, .int mk, .int sr, .int sv, .int tk])), (x1, .inr (0, [.int pd, .int ct, .int cg, .int pn])), (x2, .inr (1, [.ref x3, .ref x4, .int (nI n)])), (x3, .inl (cC, 32, .inl f)), (x4, .inl (cV, 32, .inl g))] := hD
                            refine lv_aload_n hx hb d_law_349 rfl (lv_at hl 2 rfl) ?_
                            refine lv_aload_n hx hb d_law_350 rfl (lv_at hl 0 rfl) ?_
                            refine lv_iload_n hx hb d_law_351 rfl (lv_at hl 3 rfl) ?_
                            refine lv_iconst (v := 1) hx hb d_law_352 (by decide) ?_
                            refine lv_iadd hx hb d_law_353 ?_
                            refine rt_topi (nI (i + 1)) (nI_add i 1) ?_
                            refine rt_sld hx hb hX hbl hbA hS (i + 1) rfl (by omega) (by omega) d_law_354 ?_
                            refine rt_gi (wr := [(q0, .inr (2, [.ref x1, .ref x2, .int rt, .int mk, .int sr, .int sv, .int tk])), (x1, .inr (0, [.int pd, .int ct, .int cg, .int pn])), (x2, .inr (1, [.ref x3, .ref x4, .int (nI n)])), (x3, .inl (cC, 32, .inl f)), (x4, .inl (cV, 32, .inl g))]) (rt_runV (rest := [.int (rt_la (xs (i + 1)) (rt_lv g ca))]) ⟨hx, hb, hml, hown, hts⟩ (c_Md_linesAt l dC dI m0 m1 m2 cE cF H.size rt ct pd cg pn mk sr sv tk n c f g (xs (i + 1)) ca hn hca) (rt_gV m_306 m_307 m_308 m_13 m_309) hd_Md_linesAt ⟨Nat.le_of_ble_eq_true rfl, Nat.le_of_ble_eq_true rfl, rfl, rfl⟩ hP hK hD hN [0, 1, 2] [2, 3] (by decide) rfl rfl rfl rfl rfl hl.1 rfl (Nat.le_of_ble_eq_true rfl) d_law_355 ⟨Nat.le_of_ble_eq_true rfl, Nat.le_of_ble_eq_true rfl⟩) hP hD hS hA [0, 1, 2] [3, 4, 5, 6, 7] rfl rfl (by decide) (by decide) (fun r_355 u_355 H locs hw_355 hP hD hS _ => ?_)
                            try dsimp only at hw_355
                            have w0_355 := hw_355
                            obtain rfl := w0_355.symm
                            have hP : va_P (dC, dI) classes [(q0, .inr (2, [.ref x1, .ref x2, .int rt, .int mk, .int sr, .int sv, .int tk])), (x1, .inr (0, [.int pd, .int ct, .int cg, .int pn])), (x2, .inr (1, [.ref x3, .ref x4, .int (nI n)])), (x3, .inl (cC, 32, .inl f)), (x4, .inl (cV, 32, .inl g)), (m0, .inr (3, [.int 0, .int rt, .int ct, .int pd, .int cg, .int pn, .int mk, .int sr, .int sv, .int tk, .ref m1, .ref m2, .int (nI n), .int (nI c)])), (m1, .inl (cE, 32, .inl f)), (m2, .inl (cF, 32, .inl g))] H := hP
                            have hD : va_D A [(q0, .inr (2, [.ref x1, .ref x2, .int rt, .int mk, .int sr, .int sv, .int tk])), (x1, .inr (0, [.int pd, .int ct, .int cg, .int pn])), (x2, .inr (1, [.ref x3, .ref x4, .int (nI n)])), (x3, .inl (cC, 32, .inl f)), (x4, .inl (cV, 32, .inl g)), (m0, .inr (3, [.int 0, .int rt, .int ct, .int pd, .int cg, .int pn, .int mk, .int sr, .int sv, .int tk, .ref m1, .ref m2, .int (nI n), .int (nI c)])), (m1, .inl (cE, 32, .inl f)), (m2, .inl (cF, 32, .inl g))] := hD
                            refine lv_icmp_eq (tgt := 435) hx hb d_law_358 (by decide) (fun c_358 => ?_) (fun c_358 => ?_)
                            · refine lv_iinc (v := (nI (i + 4))) (lv' := [(3, .int (nI (i + 4))), (0, .ref b), (1, .ref q0), (2, .ref m0)]) hx hb d_law_435 hl (k := 3) rfl (nI_add i 4) (by decide) rfl (fun ls hl => ?_)
                              refine lv_goto (tgt := 18) hx hb d_law_438 (by decide) ?_
                              exact ih (i + 4) (by omega) (by omega) rt mk sr sv tk pd ct cg pn n c f g hI _ _ _ hP hD hS (lv_sub hl [1, 2, 3, 0] rfl)
                            · exact absurd rfl c_358
                          · skip
                            by_cases e_11 : ((xs i) &&& 15) = 11
                            · refine rt_topi 11 e_11 ?_
                              refine lv_tableIn (tgt := 363) hx hb d_law_32 (by decide) (by decide) rfl (by decide) ?_
                              refine lv_aload_n hx hb d_law_363 rfl (lv_at hl 1 rfl) ?_
                              refine lv_aload_n hx hb d_law_364 rfl (lv_at hl 0 rfl) ?_
                              refine lv_iload_n hx hb d_law_365 rfl (lv_at hl 3 rfl) ?_
                              refine lv_iconst (v := 1) hx hb d_law_366 (by decide) ?_
                              refine lv_iadd hx hb d_law_367 ?_
                              refine rt_topi (nI (i + 1)) (nI_add i 1) ?_
                              refine rt_sld hx hb hX hbl hbA hS (i + 1) rfl (by omega) (by omega) d_law_368 ?_
                              refine lv_aload_n hx hb d_law_369 rfl (lv_at hl 0 rfl) ?_
                              refine lv_iload_n hx hb d_law_370 rfl (lv_at hl 3 rfl) ?_
                              refine lv_iconst (v := 2) hx hb d_law_371 (by decide) ?_
                              refine lv_iadd hx hb d_law_372 ?_
                              refine rt_topi (nI (i + 2)) (nI_add i 2) ?_
                              refine rt_sld hx hb hX hbl hbA hS (i + 2) rfl (by omega) (by omega) d_law_373 ?_
                              refine lv_if_eq (tgt := 381) hx hb d_law_374 (by decide) (fun c_374 => ?_) (fun c_374 => ?_)
                              · refine lv_iconst (v := 0) hx hb d_law_381 (by decide) ?_
                                refine rt_gi (wr := [(m0, .inr (3, [.int 0, .int rt, .int ct, .int pd, .int cg, .int pn, .int mk, .int sr, .int sv, .int tk, .ref m1, .ref m2, .int (nI n), .int (nI c)])), (m1, .inl (cE, 32, .inl f)), (m2, .inl (cF, 32, .inl g))]) (rt_runV (rest := []) ⟨hx, hb, hml, hown, hts⟩ (c_Rt_entryOf l dC dI q0 x1 x2 x3 x4 cC cV H.size rt mk sr sv tk pd ct cg pn n f g (xs (i + 1)) 0 hn) (rt_gV m_188 m_189 m_190 m_10 m_191) hd_Rt_entryOf ⟨Nat.le_of_ble_eq_true rfl, Nat.le_of_ble_eq_true rfl, rfl, rfl⟩ hP hK hD hN [0, 1, 2, 3, 4] [0, 1] (by decide) rfl rfl rfl rfl rfl hl.1 rfl (Nat.le_of_ble_eq_true rfl) d_law_382 ⟨Nat.le_of_ble_eq_true rfl, Nat.le_of_ble_eq_true rfl⟩) hP hD hS hA [0, 1, 2, 3, 4] [5, 6, 7] rfl rfl (by decide) (by decide) (fun r_382 u_382 H locs hw_382 hP hD hS _ => ?_)
                                try dsimp only at hw_382
                                have w0_382 := hw_382
                                obtain rfl := w0_382.symm
                                have hP : va_P (dC, dI) classes [(m0, .inr (3, [.int 0, .int rt, .int ct, .int pd, .int cg, .int pn, .int mk, .int sr, .int sv, .int tk, .ref m1, .ref m2, .int (nI n), .int (nI c)])), (m1, .inl (cE, 32, .inl f)), (m2, .inl (cF, 32, .inl g)), (q0, .inr (2, [.ref x1, .ref x2, .int rt, .int mk, .int sr, .int sv, .int tk])), (x1, .inr (0, [.int pd, .int ct, .int cg, .int pn])), (x2, .inr (1, [.ref x3, .ref x4, .int (nI n)])), (x3, .inl (cC, 32, .inl f)), (x4, .inl (cV, 32, .inl g))] H := hP
                                have hD : va_D A [(m0, .inr (3, [.int 0, .int rt, .int ct, .int pd, .int cg, .int pn, .int mk, .int sr, .int sv, .int tk, .ref m1, .ref m2, .int (nI n), .int (nI c)])), (m1, .inl (cE, 32, .inl f)), (m2, .inl (cF, 32, .inl g)), (q0, .inr (2, [.ref x1, .ref x2, .int rt, .int mk, .int sr, .int sv, .int tk])), (x1, .inr (0, [.int pd, .int ct, .int cg, .int pn])), (x2, .inr (1, [.ref x3, .ref x4, .int (nI n)])), (x3, .inl (cC, 32, .inl f)), (x4, .inl (cV, 32, .inl g))] := hD
                                refine lv_aload_n hx hb d_law_385 rfl (lv_at hl 2 rfl) ?_
                                refine lv_aload_n hx hb d_law_386 rfl (lv_at hl 0 rfl) ?_
                                refine lv_iload_n hx hb d_law_387 rfl (lv_at hl 3 rfl) ?_
                                refine lv_iconst (v := 1) hx hb d_law_388 (by decide) ?_
                                refine lv_iadd hx hb d_law_389 ?_
                                refine rt_topi (nI (i + 1)) (nI_add i 1) ?_
                                refine rt_sld hx hb hX hbl hbA hS (i + 1) rfl (by omega) (by omega) d_law_390 ?_
                                refine lv_aload_n hx hb d_law_391 rfl (lv_at hl 0 rfl) ?_
                                refine lv_iload_n hx hb d_law_392 rfl (lv_at hl 3 rfl) ?_
                                refine lv_iconst (v := 2) hx hb d_law_393 (by decide) ?_
                                refine lv_iadd hx hb d_law_394 ?_
                                refine rt_topi (nI (i + 2)) (nI_add i 2) ?_
                                refine rt_sld hx hb hX hbl hbA hS (i + 2) rfl (by omega) (by omega) d_law_395 ?_
                                refine lv_if_eq (tgt := 403) hx hb d_law_396 (by decide) (fun c_396 => ?_) (fun c_396 => ?_)
                                · refine lv_iconst (v := 0) hx hb d_law_403 (by decide) ?_
                                  refine rt_gi (wr := [(q0, .inr (2, [.ref x1, .ref x2, .int rt, .int mk, .int sr, .int sv, .int tk])), (x1, .inr (0, [.int pd, .int ct, .int cg, .int pn])), (x2, .inr (1, [.ref x3, .ref x4, .int (nI n)])), (x3, .inl (cC, 32, .inl f)), (x4, .inl (cV, 32, .inl g))]) (rt_runV (rest := [.int (rt_eo (xs (i + 1)) 0 n f g)]) ⟨hx, hb, hml, hown, hts⟩ (c_Md_entryOf l dC dI m0 m1 m2 cE cF H.size rt ct pd cg pn mk sr sv tk n c f g (xs (i + 1)) 0 hn) (rt_gV m_310 m_311 m_312 m_13 m_313) hd_Md_entryOf ⟨Nat.le_of_ble_eq_true rfl, Nat.le_of_ble_eq_true rfl, rfl, rfl⟩ hP hK hD hN [0, 1, 2] [2, 3] (by decide) rfl rfl rfl rfl rfl hl.1 rfl (Nat.le_of_ble_eq_true rfl) d_law_404 ⟨Nat.le_of_ble_eq_true rfl, Nat.le_of_ble_eq_true rfl⟩) hP hD hS hA [0, 1, 2] [3, 4, 5, 6, 7] rfl rfl (by decide) (by decide) (fun r_404 u_404 H locs hw_404 hP hD hS _ => ?_)
                                  try dsimp only at hw_404
                                  have w0_404 := hw_404
                                  obtain rfl := w0_404.symm
                                  have hP : va_P (dC, dI) classes [(q0, .inr (2, [.ref x1, .ref x2, .int rt, .int mk, .int sr, .int sv, .int tk])), (x1, .inr (0, [.int pd, .int ct, .int cg, .int pn])), (x2, .inr (1, [.ref x3, .ref x4, .int (nI n)])), (x3, .inl (cC, 32, .inl f)), (x4, .inl (cV, 32, .inl g)), (m0, .inr (3, [.int 0, .int rt, .int ct, .int pd, .int cg, .int pn, .int mk, .int sr, .int sv, .int tk, .ref m1, .ref m2, .int (nI n), .int (nI c)])), (m1, .inl (cE, 32, .inl f)), (m2, .inl (cF, 32, .inl g))] H := hP
                                  have hD : va_D A [(q0, .inr (2, [.ref x1, .ref x2, .int rt, .int mk, .int sr, .int sv, .int tk])), (x1, .inr (0, [.int pd, .int ct, .int cg, .int pn])), (x2, .inr (1, [.ref x3, .ref x4, .int (nI n)])), (x3, .inl (cC, 32, .inl f)), (x4, .inl (cV, 32, .inl g)), (m0, .inr (3, [.int 0, .int rt, .int ct, .int pd, .int cg, .int pn, .int mk, .int sr, .int sv, .int tk, .ref m1, .ref m2, .int (nI n), .int (nI c)])), (m1, .inl (cE, 32, .inl f)), (m2, .inl (cF, 32, .inl g))] := hD
                                  refine lv_icmp_eq (tgt := 435) hx hb d_law_407 (by decide) (fun c_407 => ?_) (fun c_407 => ?_)
                                  · refine lv_iinc (v := (nI (i + 4))) (lv' := [(3, .int (nI (i + 4))), (0, .ref b), (1, .ref q0), (2, .ref m0)]) hx hb d_law_435 hl (k := 3) rfl (nI_add i 4) (by decide) rfl (fun ls hl => ?_)
                                    refine lv_goto (tgt := 18) hx hb d_law_438 (by decide) ?_
                                    exact ih (i + 4) (by omega) (by omega) rt mk sr sv tk pd ct cg pn n c f g hI _ _ _ hP hD hS (lv_sub hl [1, 2, 3, 0] rfl)
                                  · exact absurd rfl c_407
                                · exact absurd c_374 c_396
                              · refine lv_iconst (v := 1) hx hb d_law_377 (by decide) ?_
                                refine lv_goto (tgt := 382) hx hb d_law_378 (by decide) ?_
                                refine rt_gi (wr := [(m0, .inr (3, [.int 0, .int rt, .int ct, .int pd, .int cg, .int pn, .int mk, .int sr, .int sv, .int tk, .ref m1, .ref m2, .int (nI n), .int (nI c)])), (m1, .inl (cE, 32, .inl f)), (m2, .inl (cF, 32, .inl g))]) (rt_runV (rest := []) ⟨hx, hb, hml, hown, hts⟩ (c_Rt_entryOf l dC dI q0 x1 x2 x3 x4 cC cV H.size rt mk sr sv tk pd ct cg pn n f g (xs (i + 1)) 1 hn) (rt_gV m_188 m_189 m_190 m_10 m_191) hd_Rt_entryOf ⟨Nat.le_of_ble_eq_true rfl, Nat.le_of_ble_eq_true rfl, rfl, rfl⟩ hP hK hD hN [0, 1, 2, 3, 4] [0, 1] (by decide) rfl rfl rfl rfl rfl hl.1 rfl (Nat.le_of_ble_eq_true rfl) d_law_382 ⟨Nat.le_of_ble_eq_true rfl, Nat.le_of_ble_eq_true rfl⟩) hP hD hS hA [0, 1, 2, 3, 4] [5, 6, 7] rfl rfl (by decide) (by decide) (fun r_382 u_382 H locs hw_382 hP hD hS _ => ?_)
                                try dsimp only at hw_382
                                have w0_382 := hw_382
                                obtain rfl := w0_382.symm
                                have hP : va_P (dC, dI) classes [(m0, .inr (3, [.int 0, .int rt, .int ct, .int pd, .int cg, .int pn, .int mk, .int sr, .int sv, .int tk, .ref m1, .ref m2, .int (nI n), .int (nI c)])), (m1, .inl (cE, 32, .inl f)), (m2, .inl (cF, 32, .inl g)), (q0, .inr (2, [.ref x1, .ref x2, .int rt, .int mk, .int sr, .int sv, .int tk])), (x1, .inr (0, [.int pd, .int ct, .int cg, .int pn])), (x2, .inr (1, [.ref x3, .ref x4, .int (nI n)])), (x3, .inl (cC, 32, .inl f)), (x4, .inl (cV, 32, .inl g))] H := hP
                                have hD : va_D A [(m0, .inr (3, [.int 0, .int rt, .int ct, .int pd, .int cg, .int pn, .int mk, .int sr, .int sv, .int tk, .ref m1, .ref m2, .int (nI n), .int (nI c)])), (m1, .inl (cE, 32, .inl f)), (m2, .inl (cF, 32, .inl g)), (q0, .inr (2, [.ref x1, .ref x2, .int rt, .int mk, .int sr, .int sv, .int tk])), (x1, .inr (0, [.int pd, .int ct, .int cg, .int pn])), (x2, .inr (1, [.ref x3, .ref x4, .int (nI n)])), (x3, .inl (cC, 32, .inl f)), (x4, .inl (cV, 32, .inl g))] := hD
                                refine lv_aload_n hx hb d_law_385 rfl (lv_at hl 2 rfl) ?_
                                refine lv_aload_n hx hb d_law_386 rfl (lv_at hl 0 rfl) ?_
                                refine lv_iload_n hx hb d_law_387 rfl (lv_at hl 3 rfl) ?_
                                refine lv_iconst (v := 1) hx hb d_law_388 (by decide) ?_
                                refine lv_iadd hx hb d_law_389 ?_
                                refine rt_topi (nI (i + 1)) (nI_add i 1) ?_
                                refine rt_sld hx hb hX hbl hbA hS (i + 1) rfl (by omega) (by omega) d_law_390 ?_
                                refine lv_aload_n hx hb d_law_391 rfl (lv_at hl 0 rfl) ?_
                                refine lv_iload_n hx hb d_law_392 rfl (lv_at hl 3 rfl) ?_
                                refine lv_iconst (v := 2) hx hb d_law_393 (by decide) ?_
                                refine lv_iadd hx hb d_law_394 ?_
                                refine rt_topi (nI (i + 2)) (nI_add i 2) ?_
                                refine rt_sld hx hb hX hbl hbA hS (i + 2) rfl (by omega) (by omega) d_law_395 ?_
                                refine lv_if_eq (tgt := 403) hx hb d_law_396 (by decide) (fun c_396 => ?_) (fun c_396 => ?_)
                                · exact absurd c_396 c_374
                                · refine lv_iconst (v := 1) hx hb d_law_399 (by decide) ?_
                                  refine lv_goto (tgt := 404) hx hb d_law_400 (by decide) ?_
                                  refine rt_gi (wr := [(q0, .inr (2, [.ref x1, .ref x2, .int rt, .int mk, .int sr, .int sv, .int tk])), (x1, .inr (0, [.int pd, .int ct, .int cg, .int pn])), (x2, .inr (1, [.ref x3, .ref x4, .int (nI n)])), (x3, .inl (cC, 32, .inl f)), (x4, .inl (cV, 32, .inl g))]) (rt_runV (rest := [.int (rt_eo (xs (i + 1)) 1 n f g)]) ⟨hx, hb, hml, hown, hts⟩ (c_Md_entryOf l dC dI m0 m1 m2 cE cF H.size rt ct pd cg pn mk sr sv tk n c f g (xs (i + 1)) 1 hn) (rt_gV m_310 m_311 m_312 m_13 m_313) hd_Md_entryOf ⟨Nat.le_of_ble_eq_true rfl, Nat.le_of_ble_eq_true rfl, rfl, rfl⟩ hP hK hD hN [0, 1, 2] [2, 3] (by decide) rfl rfl rfl rfl rfl hl.1 rfl (Nat.le_of_ble_eq_true rfl) d_law_404 ⟨Nat.le_of_ble_eq_true rfl, Nat.le_of_ble_eq_true rfl⟩) hP hD hS hA [0, 1, 2] [3, 4, 5, 6, 7] rfl rfl (by decide) (by decide) (fun r_404 u_404 H locs hw_404 hP hD hS _ => ?_)
                                  try dsimp only at hw_404
                                  have w0_404 := hw_404
                                  obtain rfl := w0_404.symm
                                  have hP : va_P (dC, dI) classes [(q0, .inr (2, [.ref x1, .ref x2, .int rt, .int mk, .int sr, .int sv, .int tk])), (x1, .inr (0, [.int pd, .int ct, .int cg, .int pn])), (x2, .inr (1, [.ref x3, .ref x4, .int (nI n)])), (x3, .inl (cC, 32, .inl f)), (x4, .inl (cV, 32, .inl g)), (m0, .inr (3, [.int 0, .int rt, .int ct, .int pd, .int cg, .int pn, .int mk, .int sr, .int sv, .int tk, .ref m1, .ref m2, .int (nI n), .int (nI c)])), (m1, .inl (cE, 32, .inl f)), (m2, .inl (cF, 32, .inl g))] H := hP
                                  have hD : va_D A [(q0, .inr (2, [.ref x1, .ref x2, .int rt, .int mk, .int sr, .int sv, .int tk])), (x1, .inr (0, [.int pd, .int ct, .int cg, .int pn])), (x2, .inr (1, [.ref x3, .ref x4, .int (nI n)])), (x3, .inl (cC, 32, .inl f)), (x4, .inl (cV, 32, .inl g)), (m0, .inr (3, [.int 0, .int rt, .int ct, .int pd, .int cg, .int pn, .int mk, .int sr, .int sv, .int tk, .ref m1, .ref m2, .int (nI n), .int (nI c)])), (m1, .inl (cE, 32, .inl f)), (m2, .inl (cF, 32, .inl g))] := hD
                                  refine lv_icmp_eq (tgt := 435) hx hb d_law_407 (by decide) (fun c_407 => ?_) (fun c_407 => ?_)
                                  · refine lv_iinc (v := (nI (i + 4))) (lv' := [(3, .int (nI (i + 4))), (0, .ref b), (1, .ref q0), (2, .ref m0)]) hx hb d_law_435 hl (k := 3) rfl (nI_add i 4) (by decide) rfl (fun ls hl => ?_)
                                    refine lv_goto (tgt := 18) hx hb d_law_438 (by decide) ?_
                                    exact ih (i + 4) (by omega) (by omega) rt mk sr sv tk pd ct cg pn n c f g hI _ _ _ hP hD hS (lv_sub hl [1, 2, 3, 0] rfl)
                                  · exact absurd rfl c_407
                            · skip
                              by_cases e_12 : ((xs i) &&& 15) = 12
                              · refine rt_topi 12 e_12 ?_
                                refine lv_tableIn (tgt := 412) hx hb d_law_32 (by decide) (by decide) rfl (by decide) ?_
                                refine lv_aload_n hx hb d_law_412 rfl (lv_at hl 1 rfl) ?_
                                refine lv_aload_n hx hb d_law_413 rfl (lv_at hl 0 rfl) ?_
                                refine lv_iload_n hx hb d_law_414 rfl (lv_at hl 3 rfl) ?_
                                refine lv_iconst (v := 1) hx hb d_law_415 (by decide) ?_
                                refine lv_iadd hx hb d_law_416 ?_
                                refine rt_topi (nI (i + 1)) (nI_add i 1) ?_
                                refine rt_sld hx hb hX hbl hbA hS (i + 1) rfl (by omega) (by omega) d_law_417 ?_
                                refine rt_gi (wr := [(m0, .inr (3, [.int 0, .int rt, .int ct, .int pd, .int cg, .int pn, .int mk, .int sr, .int sv, .int tk, .ref m1, .ref m2, .int (nI n), .int (nI c)])), (m1, .inl (cE, 32, .inl f)), (m2, .inl (cF, 32, .inl g))]) (rt_runV (rest := []) ⟨hx, hb, hml, hown, hts⟩ (c_Rt_look l dC dI q0 x1 x2 x3 x4 cC cV H.size rt mk sr sv tk pd ct cg pn n f g (xs (i + 1)) c k hn hc hk) (rt_gV m_192 m_193 m_194 m_10 m_195) hd_Rt_look ⟨Nat.le_of_ble_eq_true rfl, Nat.le_of_ble_eq_true rfl, rfl, rfl⟩ hP hK hD hN [0, 1, 2, 3, 4] [0, 1] (by decide) rfl rfl rfl rfl rfl hl.1 rfl (Nat.le_of_ble_eq_true rfl) d_law_418 ⟨Nat.le_of_ble_eq_true rfl, Nat.le_of_ble_eq_true rfl⟩) hP hD hS hA [0, 1, 2, 3, 4] [5, 6, 7] rfl rfl (by decide) (by decide) (fun r_418 u_418 H locs hw_418 hP hD hS _ => ?_)
                                try dsimp only at hw_418
                                have w0_418 := hw_418
                                obtain rfl := w0_418.symm
                                have hP : va_P (dC, dI) classes [(m0, .inr (3, [.int 0, .int rt, .int ct, .int pd, .int cg, .int pn, .int mk, .int sr, .int sv, .int tk, .ref m1, .ref m2, .int (nI n), .int (nI c)])), (m1, .inl (cE, 32, .inl f)), (m2, .inl (cF, 32, .inl g)), (q0, .inr (2, [.ref x1, .ref x2, .int rt, .int mk, .int sr, .int sv, .int tk])), (x1, .inr (0, [.int pd, .int ct, .int cg, .int pn])), (x2, .inr (1, [.ref x3, .ref x4, .int (nI n)])), (x3, .inl (cC, 32, .inl f)), (x4, .inl (cV, 32, .inl g))] H := hP
                                have hD : va_D A [(m0, .inr (3, [.int 0, .int rt, .int ct, .int pd, .int cg, .int pn, .int mk, .int sr, .int sv, .int tk, .ref m1, .ref m2, .int (nI n), .int (nI c)])), (m1, .inl (cE, 32, .inl f)), (m2, .inl (cF, 32, .inl g)), (q0, .inr (2, [.ref x1, .ref x2, .int rt, .int mk, .int sr, .int sv, .int tk])), (x1, .inr (0, [.int pd, .int ct, .int cg, .int pn])), (x2, .inr (1, [.ref x3, .ref x4, .int (nI n)])), (x3, .inl (cC, 32, .inl f)), (x4, .inl (cV, 32, .inl g))] := hD
                                refine lv_aload_n hx hb d_law_421 rfl (lv_at hl 2 rfl) ?_
                                refine lv_aload_n hx hb d_law_422 rfl (lv_at hl 0 rfl) ?_
                                refine lv_iload_n hx hb d_law_423 rfl (lv_at hl 3 rfl) ?_
                                refine lv_iconst (v := 1) hx hb d_law_424 (by decide) ?_
                                refine lv_iadd hx hb d_law_425 ?_
                                refine rt_topi (nI (i + 1)) (nI_add i 1) ?_
                                refine rt_sld hx hb hX hbl hbA hS (i + 1) rfl (by omega) (by omega) d_law_426 ?_
                                refine rt_gi (wr := [(q0, .inr (2, [.ref x1, .ref x2, .int rt, .int mk, .int sr, .int sv, .int tk])), (x1, .inr (0, [.int pd, .int ct, .int cg, .int pn])), (x2, .inr (1, [.ref x3, .ref x4, .int (nI n)])), (x3, .inl (cC, 32, .inl f)), (x4, .inl (cV, 32, .inl g))]) (rt_runV (rest := [.int (rt_lk (xs (i + 1)) rt ct pd pn cg mk (rt_lv g c) sr sv tk n (rt_dm sr pn mk (rt_lv g c)))]) ⟨hx, hb, hml, hown, hts⟩ (c_Md_look l dC dI m0 m1 m2 cE cF H.size rt ct pd cg pn mk sr sv tk n c f g (xs (i + 1)) hn hc.1) (rt_gV m_314 m_315 m_316 m_13 m_317) hd_Md_look ⟨Nat.le_of_ble_eq_true rfl, Nat.le_of_ble_eq_true rfl, rfl, rfl⟩ hP hK hD hN [0, 1, 2] [2, 3] (by decide) rfl rfl rfl rfl rfl hl.1 rfl (Nat.le_of_ble_eq_true rfl) d_law_427 ⟨Nat.le_of_ble_eq_true rfl, Nat.le_of_ble_eq_true rfl⟩) hP hD hS hA [0, 1, 2] [3, 4, 5, 6, 7] rfl rfl (by decide) (by decide) (fun r_427 u_427 H locs hw_427 hP hD hS _ => ?_)
                                try dsimp only at hw_427
                                have w0_427 := hw_427
                                obtain rfl := w0_427.symm
                                have hP : va_P (dC, dI) classes [(q0, .inr (2, [.ref x1, .ref x2, .int rt, .int mk, .int sr, .int sv, .int tk])), (x1, .inr (0, [.int pd, .int ct, .int cg, .int pn])), (x2, .inr (1, [.ref x3, .ref x4, .int (nI n)])), (x3, .inl (cC, 32, .inl f)), (x4, .inl (cV, 32, .inl g)), (m0, .inr (3, [.int 0, .int rt, .int ct, .int pd, .int cg, .int pn, .int mk, .int sr, .int sv, .int tk, .ref m1, .ref m2, .int (nI n), .int (nI c)])), (m1, .inl (cE, 32, .inl f)), (m2, .inl (cF, 32, .inl g))] H := hP
                                have hD : va_D A [(q0, .inr (2, [.ref x1, .ref x2, .int rt, .int mk, .int sr, .int sv, .int tk])), (x1, .inr (0, [.int pd, .int ct, .int cg, .int pn])), (x2, .inr (1, [.ref x3, .ref x4, .int (nI n)])), (x3, .inl (cC, 32, .inl f)), (x4, .inl (cV, 32, .inl g)), (m0, .inr (3, [.int 0, .int rt, .int ct, .int pd, .int cg, .int pn, .int mk, .int sr, .int sv, .int tk, .ref m1, .ref m2, .int (nI n), .int (nI c)])), (m1, .inl (cE, 32, .inl f)), (m2, .inl (cF, 32, .inl g))] := hD
                                refine lv_icmp_eq (tgt := 435) hx hb d_law_430 (by decide) (fun c_430 => ?_) (fun c_430 => ?_)
                                · refine lv_iinc (v := (nI (i + 4))) (lv' := [(3, .int (nI (i + 4))), (0, .ref b), (1, .ref q0), (2, .ref m0)]) hx hb d_law_435 hl (k := 3) rfl (nI_add i 4) (by decide) rfl (fun ls hl => ?_)
                                  refine lv_goto (tgt := 18) hx hb d_law_438 (by decide) ?_
                                  exact ih (i + 4) (by omega) (by omega) rt mk sr sv tk pd ct cg pn n c f g hI _ _ _ hP hD hS (lv_sub hl [1, 2, 3, 0] rfl)
                                · exact absurd rfl c_430
                              · skip
                                refine lv_tableOut (tgt := 435) hx hb d_law_32 (by have q0 := lv_neT e_0 (a := 0) rfl; have q1 := lv_neT e_1 (a := 1) rfl; have q2 := lv_neT e_2 (a := 2) rfl; have q3 := lv_neT e_3 (a := 3) rfl; have q4 := lv_neT e_4 (a := 4) rfl; have q5 := lv_neT e_5 (a := 5) rfl; have q6 := lv_neT e_6 (a := 6) rfl; have q7 := lv_neT e_7 (a := 7) rfl; have q8 := lv_neT e_8 (a := 8) rfl; have q9 := lv_neT e_9 (a := 9) rfl; have q10 := lv_neT e_10 (a := 10) rfl; have q11 := lv_neT e_11 (a := 11) rfl; have q12 := lv_neT e_12 (a := 12) rfl; omega) (by decide) ?_
                                refine lv_iinc (v := (nI (i + 4))) (lv' := [(3, .int (nI (i + 4))), (0, .ref b), (1, .ref q0), (2, .ref m0)]) hx hb d_law_435 hl (k := 3) rfl (nI_add i 4) (by decide) rfl (fun ls hl => ?_)
                                refine lv_goto (tgt := 18) hx hb d_law_438 (by decide) ?_
                                exact ih (i + 4) (by omega) (by omega) rt mk sr sv tk pd ct cg pn n c f g hI _ _ _ hP hD hS (lv_sub hl [1, 2, 3, 0] rfl)
end
section
set_option maxHeartbeats 8000000 in
set_option maxRecDepth 100000 in
/-- THE LAW, from its entry -/
theorem whole_start {p : Program} {e : Env} {s : State} {m : MethodId} {below : List Frame} {meth : Method} {c : Code} (l : Launch) {b L : Nat} {xs : Nat → Int32} (hL : L ≤ 2048) (C0 : lw_At p s m meth c b L xs) : W p l e room_1 s m #[Value.ref b] below meth c s.heap [] 0 0 (lw_Z below #[Value.ref b] s) (entryFrame m ([Value.ref b] : List Value).toArray 4) := by
  obtain ⟨hx, hb, hr, hml, hown, hts0, hX, hbl, hlocks, hgv⟩ := id C0
  have hts : ∀ w ∈ lw_rest, w.before #[Value.ref b] s = true := fun w h => hts0 w (lw_sub w h)
  have hN : rt_N s := rt_N_of hts0
  obtain ⟨A, hAe⟩ : ∃ A : Nat → Prop, A = (fun q : Nat => s.heap.size ≤ q) := ⟨_, rfl⟩
  have hA : ∀ q : Nat, s.heap.size ≤ q → A q := fun q h => by rw [hAe]; exact h
  have hA2 : ∀ q : Nat, A q → s.heap.size ≤ q := fun q h => by rw [hAe] at h; exact h
  have hbA : ¬ A b := fun h => absurd (hA2 b h) (Nat.not_le.mpr hbl)
  obtain ⟨k0, i0, hKn0⟩ := u_known (C := R_Tm) (T := F_Tm) (N := 4) (n := 4) hts i_Tm (hts _ m_24)
  obtain ⟨k1, i1, hKn1⟩ := u_known (C := R_Rw) (T := F_Rw) (N := 3) (n := 3) hts i_Rw (hts _ m_47)
  obtain ⟨k2, i2, hKn2⟩ := u_known (C := R_Rt) (T := F_Rt) (N := 7) (n := 7) hts i_Rt (hts _ m_16)
  obtain ⟨k3, i3, hKn3⟩ := u_known (C := R_Md) (T := F_Md) (N := 14) (n := 14) hts i_Md (hts _ m_197)
  obtain ⟨dC, dI, hKc⟩ : ∃ (dC : Nat → ClassId) (dI : Nat → Nat → Nat), ∀ (k : Nat) (q : vw_C), classes[k]? = some q → u_Kn s q.1 q.2.1 q.2.2 (dC k) (dI k) := by
    refine ⟨fun k => if k = 0 then k0 else if k = 1 then k1 else if k = 2 then k2 else k3, fun k => if k = 0 then i0 else if k = 1 then i1 else if k = 2 then i2 else i3, ?_⟩
    intro k q hq
    match k, hq with
    | 0, hq => cases hq; exact hKn0
    | 1, hq => cases hq; exact hKn1
    | 2, hq => cases hq; exact hKn2
    | 3, hq => cases hq; exact hKn3
    | k + 4, hq => simp [classes] at hq
  have hS : va_S A s.heap s.heap [] := va_S.rf
  have hK : va_K (dC, dI) classes [] s := ⟨hKc, fun k q h => by simp at h⟩
  have hP : va_P (dC, dI) classes [] s.heap := fun k q h => by simp at h
  have hD : va_D A [] := ⟨fun i j p q h => by simp at h, fun k q h => by simp at h⟩
  have hl := lv_entry ([.ref b]) (n := 4) (Nat.le_of_ble_eq_true rfl)
  rw [lg_entry_eq]
  generalize (lg_sl ([.ref b]) ++ List.replicate (4 - (lg_sl ([.ref b])).length) Slot.unset).toArray = ls at hl ⊢
  have hl : lv_has ls 4 [(0, .ref b)] := hl
  refine va_new (ci := 2) (fs := [.null, .null, .int 0, .int 0, .int 0, .int 0, .int 0]) (C := R_Rt) (T := F_Rt) (N := 7) hx hb hts i_Rt t_Rt t_Rt_ok hown (hts _ m_15) (hts _ m_16) (hts _ m_10) hK hP hD hS hA rfl (fun j hj => by rcases (show j = 0 ∨ j = 1 ∨ j = 2 ∨ j = 3 ∨ j = 4 ∨ j = 5 ∨ j = 6 by omega) with rfl | rfl | rfl | rfl | rfl | rfl | rfl <;> rfl) (Nat.le_of_ble_eq_true rfl) (Nat.le_of_ble_eq_true rfl) d_law_0 (fun q_0 H hP hD hS => ?_)
  have hP : va_P (dC, dI) classes [(q_0, .inr (2, [.null, .null, .int 0, .int 0, .int 0, .int 0, .int 0]))] H := hP
  have hD : va_D A [(q_0, .inr (2, [.null, .null, .int 0, .int 0, .int 0, .int 0, .int 0]))] := hD
  refine lv_dup hx hb d_law_3 rfl ?_
  refine rt_gv (wr := []) (rt_runI (rest := [.ref q_0]) ⟨hx, hb, hml, hown, hts⟩ (c_Rt_init l dC dI q_0 H.size) m_19 m_10 m_17 m_18 rfl hd_Rt_init.2 ⟨Nat.le_of_ble_eq_true rfl, Nat.le_of_ble_eq_true rfl, rfl, rfl⟩ hP hK hD hN [0] [] (by decide) rfl rfl rfl hl.1 rfl (Nat.le_of_ble_eq_true rfl) d_law_4 ⟨Nat.le_of_ble_eq_true rfl, Nat.le_of_ble_eq_true rfl⟩) hP hD hS hA [0] [] rfl rfl (by decide) (by decide) (fun u_4 H locs hw_4 hP hD hS hK1 => ?_)
  obtain ⟨h1_4, h2_4, h3_4, h4_4, cC_4, cV_4⟩ := u_4
  have hP : va_P (dC, dI) classes [(q_0, .inr (2, [.ref h1_4, .ref h2_4, .int 0, .int 0, .int 1, .int 0, .int 0])), (h1_4, .inr (0, [.int 0, .int 0, .int 0, .int 0])), (h2_4, .inr (1, [.ref h3_4, .ref h4_4, .int (nI 0)])), (h3_4, .inl (cC_4, 32, .inl (fun _ => 0))), (h4_4, .inl (cV_4, 32, .inl (fun _ => 0)))] H := hP
  have hD : va_D A [(q_0, .inr (2, [.ref h1_4, .ref h2_4, .int 0, .int 0, .int 1, .int 0, .int 0])), (h1_4, .inr (0, [.int 0, .int 0, .int 0, .int 0])), (h2_4, .inr (1, [.ref h3_4, .ref h4_4, .int (nI 0)])), (h3_4, .inl (cC_4, 32, .inl (fun _ => 0))), (h4_4, .inl (cV_4, 32, .inl (fun _ => 0)))] := hD
  have hK : va_K (dC, dI) classes [(cC_4, .int), (cV_4, .int)] s := hK.app hK1
  refine lv_astore_n (lv' := [(1, .ref q_0), (0, .ref b)]) hx hb d_law_7 rfl hl (by decide) rfl (fun ls hl => ?_)
  refine va_new (ci := 3) (fs := [.int 0, .int 0, .int 0, .int 0, .int 0, .int 0, .int 0, .int 0, .int 0, .int 0, .null, .null, .int 0, .int 0]) (C := R_Md) (T := F_Md) (N := 14) hx hb hts i_Md t_Md t_Md_ok hown (hts _ m_196) (hts _ m_197) (hts _ m_13) hK hP hD hS hA rfl (fun j hj => by rcases (show j = 0 ∨ j = 1 ∨ j = 2 ∨ j = 3 ∨ j = 4 ∨ j = 5 ∨ j = 6 ∨ j = 7 ∨ j = 8 ∨ j = 9 ∨ j = 10 ∨ j = 11 ∨ j = 12 ∨ j = 13 by omega) with rfl | rfl | rfl | rfl | rfl | rfl | rfl | rfl | rfl | rfl | rfl | rfl | rfl | rfl <;> rfl) (Nat.le_of_ble_eq_true rfl) (Nat.le_of_ble_eq_true rfl) d_law_8 (fun q_8 H hP hD hS => ?_)
  have hP : va_P (dC, dI) classes [(q_0, .inr (2, [.ref h1_4, .ref h2_4, .int 0, .int 0, .int 1, .int 0, .int 0])), (h1_4, .inr (0, [.int 0, .int 0, .int 0, .int 0])), (h2_4, .inr (1, [.ref h3_4, .ref h4_4, .int (nI 0)])), (h3_4, .inl (cC_4, 32, .inl (fun _ => 0))), (h4_4, .inl (cV_4, 32, .inl (fun _ => 0))), (q_8, .inr (3, [.int 0, .int 0, .int 0, .int 0, .int 0, .int 0, .int 0, .int 0, .int 0, .int 0, .null, .null, .int 0, .int 0]))] H := hP
  have hD : va_D A [(q_0, .inr (2, [.ref h1_4, .ref h2_4, .int 0, .int 0, .int 1, .int 0, .int 0])), (h1_4, .inr (0, [.int 0, .int 0, .int 0, .int 0])), (h2_4, .inr (1, [.ref h3_4, .ref h4_4, .int (nI 0)])), (h3_4, .inl (cC_4, 32, .inl (fun _ => 0))), (h4_4, .inl (cV_4, 32, .inl (fun _ => 0))), (q_8, .inr (3, [.int 0, .int 0, .int 0, .int 0, .int 0, .int 0, .int 0, .int 0, .int 0, .int 0, .null, .null, .int 0, .int 0]))] := hD
  refine lv_dup hx hb d_law_11 rfl ?_
  refine rt_gv (wr := [(q_0, .inr (2, [.ref h1_4, .ref h2_4, .int 0, .int 0, .int 1, .int 0, .int 0])), (h1_4, .inr (0, [.int 0, .int 0, .int 0, .int 0])), (h2_4, .inr (1, [.ref h3_4, .ref h4_4, .int (nI 0)])), (h3_4, .inl (cC_4, 32, .inl (fun _ => 0))), (h4_4, .inl (cV_4, 32, .inl (fun _ => 0)))]) (rt_runI (rest := [.ref q_8]) ⟨hx, hb, hml, hown, hts⟩ (c_Md_init l dC dI q_8 H.size) m_200 m_13 m_198 m_199 rfl hd_Md_init.2 ⟨Nat.le_of_ble_eq_true rfl, Nat.le_of_ble_eq_true rfl, rfl, rfl⟩ hP hK hD hN [5] [] (by decide) rfl rfl rfl hl.1 rfl (Nat.le_of_ble_eq_true rfl) d_law_12 ⟨Nat.le_of_ble_eq_true rfl, Nat.le_of_ble_eq_true rfl⟩) hP hD hS hA [5] [0, 1, 2, 3, 4] rfl rfl (by decide) (by decide) (fun u_12 H locs hw_12 hP hD hS hK1 => ?_)
  obtain ⟨g1_12, g2_12, cE_12, cF_12⟩ := u_12
  have hP : va_P (dC, dI) classes [(q_0, .inr (2, [.ref h1_4, .ref h2_4, .int 0, .int 0, .int 1, .int 0, .int 0])), (h1_4, .inr (0, [.int 0, .int 0, .int 0, .int 0])), (h2_4, .inr (1, [.ref h3_4, .ref h4_4, .int (nI 0)])), (h3_4, .inl (cC_4, 32, .inl (fun _ => 0))), (h4_4, .inl (cV_4, 32, .inl (fun _ => 0))), (q_8, .inr (3, [.int 0, .int 0, .int 0, .int 0, .int 0, .int 0, .int 0, .int 1, .int 0, .int 0, .ref g1_12, .ref g2_12, .int (nI 0), .int (nI 0)])), (g1_12, .inl (cE_12, 32, .inl (fun _ => 0))), (g2_12, .inl (cF_12, 32, .inl (fun _ => 0)))] H := hP
  have hD : va_D A [(q_0, .inr (2, [.ref h1_4, .ref h2_4, .int 0, .int 0, .int 1, .int 0, .int 0])), (h1_4, .inr (0, [.int 0, .int 0, .int 0, .int 0])), (h2_4, .inr (1, [.ref h3_4, .ref h4_4, .int (nI 0)])), (h3_4, .inl (cC_4, 32, .inl (fun _ => 0))), (h4_4, .inl (cV_4, 32, .inl (fun _ => 0))), (q_8, .inr (3, [.int 0, .int 0, .int 0, .int 0, .int 0, .int 0, .int 0, .int 1, .int 0, .int 0, .ref g1_12, .ref g2_12, .int (nI 0), .int (nI 0)])), (g1_12, .inl (cE_12, 32, .inl (fun _ => 0))), (g2_12, .inl (cF_12, 32, .inl (fun _ => 0)))] := hD
  have hK : va_K (dC, dI) classes [(cC_4, .int), (cV_4, .int), (cE_12, .int), (cF_12, .int)] s := hK.app hK1
  refine lv_astore_n (lv' := [(2, .ref q_8), (1, .ref q_0), (0, .ref b)]) hx hb d_law_15 rfl hl (by decide) rfl (fun ls hl => ?_)
  refine lv_iconst (v := 0) hx hb d_law_16 (by decide) ?_
  refine rt_topi (nI 0) (nI_0.symm) ?_
  refine lv_istore_n (lv' := [(3, .int (nI 0)), (2, .ref q_8), (1, .ref q_0), (0, .ref b)]) hx hb d_law_17 rfl hl (by decide) rfl (fun ls hl => ?_)
  exact law_loop hL C0 hA hA2 hbA (hK.sub [0, 1, 2, 3] rfl) (L + 1) 0 (Nat.zero_le _) (by omega) 0 0 1 0 0 0 0 0 0 0 0 (fun _ => 0) (fun _ => 0) (rt_I_re _) _ _ _ (hP.sub [0, 1, 2, 3, 4, 5, 6, 7] rfl) (hD.sub [0, 1, 2, 3, 4, 5, 6, 7] (by decide) rfl) hS (lv_sub hl [3, 2, 1, 0] rfl)
end
section
-- ===== YOUR PART ENDS =====
set_option maxHeartbeats 4000000 in
theorem lw_walk (l : Launch) (b : Addr) (xs : List Int32) : MetFree l x (headSpec (Jvm.Cond.code x code maxLocals ret :: tables_1) room_1) (lw_P b xs) (fun _ _ _ _ _ => True) lw_Q := by
  refine MetFree.of_bodyS (code := code) (maxLocals := maxLocals) (ret := ret) (by decide) ?_ ?_
  · intro args s m h hn
    obtain ⟨meth, c, h1, h2, h3, h4, h5, h6, -, -⟩ := Cond.code_spec hn (atoms_spec (ws := Jvm.Cond.code x code maxLocals ret :: tables_1) h _ List.mem_cons_self)
    exact ⟨meth, c, h1, h2, h3, h4, h5, h6⟩
  · intro p e s m args below meth c s₁ B hml0 hP _
    obtain ⟨rfl, hx, hbd, hgv⟩ := hP
    obtain ⟨scr, harrAt, hlist, hof, hsmall⟩ := hx
    obtain ⟨hcb, hkn, -, -⟩ := State.arrayAt?_spec harrAt
    have hown : s.vm.findClass R_law = some m.cls := findClass_of_methodNamed B.named
    have hts0 : ∀ c ∈ (Jvm.Cond.code x code maxLocals ret :: tables_1), c.before #[Value.ref b] s = true := atoms_spec (ws := Jvm.Cond.code x code maxLocals ret :: tables_1) B.pre
    have hts : ∀ w ∈ lw_tbl, w.before #[Value.ref b] s = true := k2_hts_sels lw_privs (fun w hw => hts0 w (List.mem_cons_of_mem _ hw)) lw_privs_ok
    have hml : c.maxLocals = 4 := B.maxLocals_eq (hts0 _ List.mem_cons_self)
    have X₀ : Stand p l e room_1 s m #[Value.ref b] below meth c s₁ [] 0 0 := Stand.of_body B
    have hh0 : s₁.heap = s.heap := by rw [B.state]; rfl
    have hsz : scr.slots.size = xs.length := by rw [← Array.length_toList, hlist, List.length_map]
    have hval : ∀ j : Nat, j < xs.length → scr.slots[j]? = some (.int (xs.getD j 0)) := fun j hj => by
      rw [← Array.getElem?_toList, hlist]
      simp [hj]
    have hbl : b < s.heap.size := (Array.getElem?_eq_some_iff.mp hcb).1
    have hX : va_X b xs.length (fun j => xs.getD j 0) s s.heap := ⟨scr, hcb, hof, hkn, hsz, hval⟩
    have K : W p l e room_1 s m #[Value.ref b] below meth c s₁.heap [] 0 0 (lw_Z below #[Value.ref b] s) (entryFrame m ([Value.ref b] : List Value).toArray 4) := by
      rw [hh0]
      exact whole_start l hbd ⟨B.exec, B.bytes, B.returns, hml, hown, hts, hX, hbl, B.notSynchronized, hgv⟩
    obtain ⟨t, a1, o, b1, b2, b3⟩ := K s₁ rfl X₀
    exact ⟨t, o, a1, b1, b2, b3⟩
theorem lw_pre_spec {args : Array Value} {s : State} (h : (Jvm.Cond.and given_1 narrow_1).before args s = true) (hr : rest_1_c.before args s = true) : ∃ (b : Addr) (xs : List Int32), lw_P b xs args s := by
  have hs := flat_of_before _ h
  have hq := flat_of_before _ hr
  have hc : (Cond.count 1).before args s = true := hs _ (by decide +kernel)
  have harr : (Cond.arrayOf (.arg 0) .int).before args s = true := hs _ (by decide +kernel)
  have hle : (Cond.le (.length (.arg 0)) (.int 2048)).before args s = true := hs _ (by decide +kernel)
  have hlen : (Cond.isInt (.length (.arg 0))).before args s = true := hq _ (by decide +kernel)
  have hall : (Cond.all (.arg 0) (.isInt (.elem (.arg 0) (.index 0)))).before args s = true := hq _ (by decide +kernel)
  obtain ⟨b, xs, hb, hx⟩ := State.ints_of_pre rfl harr hlen hall
  have hsm : xs.length < 2 ^ 31 := hx.choose_spec.2.2.2
  have hev : (Term.length (.arg 0)).eval args s none [] s = some (.int xs.length.toInt32) := hx.length_eval hb
  have hv := Cond.le_ints hev (show (Term.int 2048).eval args s none [] s = some (.int 2048) from rfl)
  have hd : xs.length.toInt32 ≤ 2048 := by
    simpa [Cond.before, Cond.holds, hv] using hle
  have hN : xs.length ≤ 2048 := (Int32.ofNat_le_ofNat hsm (by decide)).mp (show Int32.ofNat xs.length ≤ Int32.ofNat 2048 from hd)
  exact ⟨b, xs, Cond.one_arg hc (show args[0]? = some (.ref b) from hb), hx, hN, h⟩
theorem lw_comes (l : Launch) : Comes l x (Jvm.Cond.code x code maxLocals ret :: tables_1) room_1 (fun tb e args s => Calls_1 tb e args s ∧ rest_1 tb e args s ∧ Pre_1 tb e args s)
    (fun _ _ args s o t => lw_Q args s o t) := by
  intro p e ha hc hk s m args below hf hfit hheap happ hpre
  obtain ⟨b, xs, hP⟩ := lw_pre_spec hpre.2.2 hpre.2.1
  obtain ⟨k, o, h1, h2, h3, hQ⟩ := lw_walk l b xs p e ha hc hk s m args below hf ((Spec.applies_iff_loose hf).mp happ).1 hP trivial
  exact ⟨k, o, h1, h2, h3, hQ⟩
theorem lw_frame {s t : State} {o : Outcome} {args : Array Value} (h : Framed s o t [] 8 156) :
    Framed s o t (fieldLocs frame_1_writes args s ++ arrayLocs frame_1_arrays args s ++ staticLocs frame_1_statics s) 8 156 := h
theorem lw_limb (L : Cond) (hL : ∀ (args : Array Value) (s t : State), L.after args s (.returned (some (.int 1))) t = true) :
    ArmFor flags0 classFile x code maxLocals ret World_1 tables_1 room_1 Calls_1 rest_1 Pre_1
      (fun tb e a s o t => postC L tb e a s o t ∧ Framed s o t (fieldLocs frame_1_writes a s ++ arrayLocs frame_1_arrays a s ++ staticLocs frame_1_statics s) 8 156) := by
  intro l _ _ _ p e ha hc hk s m args below hf hfit hheap happ hpre
  obtain ⟨k, o, h1, h2, h3, rfl, hF⟩ := lw_comes l p e ha hc hk s m args below hf hfit hheap happ hpre
  exact ⟨k, _, h1, h2, h3, hL args s _, lw_frame hF⟩
theorem i_vc : Claimed_1_1 ∧ Claimed_1_2 := ⟨lw_limb limb_1_1 (fun args s t => by simp [limb_1_1, Cond.after, Cond.holds, Cond.value]), lw_limb limb_1_2 (fun args s t => Cond.after_iff.mpr (by
  first | (rw [show limb_1_2 = Cond.eq .result (.int 1) from rfl, Cond.eq_ints (x := 1) (y := 1) rfl rfl]; simp; done) | (simp [limb_1_2, Cond.value, Term.eval]; done)))⟩
end
