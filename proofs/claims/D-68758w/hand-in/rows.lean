section
/-! the tables' words, names, the words as members, one row each (PART A of the skeleton ahead) -/
def lw_okq (q : MethodName × Nat) : Prop := (q.1.cls ≠ "java/lang/invoke/MethodHandle" ∧ q.1.cls ≠ "java/lang/invoke/VarHandle") ∧ Cond.instantiable q.1.cls q.2 ∈ tables_1 ∧ Cond.privateMethod q.1 ∈ tables_1 ∧ Cond.instanceMethod q.1 ∈ tables_1
theorem lw_p0 : lw_okq (⟨"DayDeskModel", "tick", "()I"⟩, 7) := ⟨⟨by decide +kernel, by decide +kernel⟩, List.mem_of_getElem? (i := 209) (by decide +kernel), List.mem_of_getElem? (i := 241) (by decide +kernel), List.mem_of_getElem? (i := 242) (by decide +kernel)⟩
theorem lw_p1 : lw_okq (⟨"DayDeskModel", "begin", "()V"⟩, 7) := ⟨⟨by decide +kernel, by decide +kernel⟩, List.mem_of_getElem? (i := 209) (by decide +kernel), List.mem_of_getElem? (i := 246) (by decide +kernel), List.mem_of_getElem? (i := 247) (by decide +kernel)⟩
theorem lw_p2 : lw_okq (⟨"DayDeskModel", "put", "(I)V"⟩, 7) := ⟨⟨by decide +kernel, by decide +kernel⟩, List.mem_of_getElem? (i := 209) (by decide +kernel), List.mem_of_getElem? (i := 297) (by decide +kernel), List.mem_of_getElem? (i := 298) (by decide +kernel)⟩
theorem lw_p3 : lw_okq (⟨"DayDeskModel", "number", "(J)V"⟩, 7) := ⟨⟨by decide +kernel, by decide +kernel⟩, List.mem_of_getElem? (i := 209) (by decide +kernel), List.mem_of_getElem? (i := 301) (by decide +kernel), List.mem_of_getElem? (i := 302) (by decide +kernel)⟩
def lw_privs_1 : List (MethodName × Nat) := [(⟨"DayDeskModel", "tick", "()I"⟩, 7), (⟨"DayDeskModel", "begin", "()V"⟩, 7), (⟨"DayDeskModel", "put", "(I)V"⟩, 7), (⟨"DayDeskModel", "number", "(J)V"⟩, 7)]
theorem lw_r1 : ∀ q ∈ lw_privs_1, lw_okq q := List.forall_mem_cons.mpr ⟨lw_p0, List.forall_mem_cons.mpr ⟨lw_p1, List.forall_mem_cons.mpr ⟨lw_p2, List.forall_mem_cons.mpr ⟨lw_p3, fun _ h => absurd h List.not_mem_nil⟩⟩⟩⟩
def lw_privs : List (MethodName × Nat) := lw_privs_1
def lw_tbl : List Cond := k2_sels lw_privs ++ tables_1
theorem lw_privs_ok : ∀ q ∈ lw_privs, lw_okq q := lw_r1
def R_D : String := "DayDesk"
def R_C : String := "DayDesk$DayClock"
def R_S : String := "DayDesk$Sums"
def R_W : String := "DayDesk$NumberWriter"
def R_P : String := "DayDesk$Phase"
def R_M : String := "DayDeskModel"
def R_law : String := "DayDeskLaw"
def F_D : u_T := fun k => match k with
  | 0 => ("DayDesk", "clock", "LDayDesk$DayClock;", true)
  | 1 => ("DayDesk", "sums", "LDayDesk$Sums;", true)
  | _ => ("DayDesk", "writer", "LDayDesk$NumberWriter;", true)
def t_D : Nat → FieldType := fun k => match k with
  | 0 => .object "DayDesk$DayClock"
  | 1 => .object "DayDesk$Sums"
  | _ => .object "DayDesk$NumberWriter"
def F_C : u_T := fun k => match k with
  | 0 => ("DayDesk$DayClock", "phases", "[LDayDesk$Phase;", true)
  | 1 => ("DayDesk$DayClock", "day", "I", false)
  | _ => ("DayDesk$DayClock", "tick", "I", false)
def t_C : Nat → FieldType := fun k => match k with
  | 0 => .array (.object "DayDesk$Phase")
  | 1 => .int
  | _ => .int
def F_S : u_T := fun k => match k with
  | 0 => ("DayDesk$Sums", "opening", "[J", true)
  | 1 => ("DayDesk$Sums", "went", "[J", true)
  | 2 => ("DayDesk$Sums", "came", "[J", true)
  | 3 => ("DayDesk$Sums", "now", "[J", true)
  | _ => ("DayDesk$Sums", "moved", "[I", true)
def t_S : Nat → FieldType := fun k => match k with
  | 0 => .array .long
  | 1 => .array .long
  | 2 => .array .long
  | 3 => .array .long
  | _ => .array .int
def F_W : u_T := fun k => match k with
  | 0 => ("DayDesk$NumberWriter", "bytes", "[B", true)
  | 1 => ("DayDesk$NumberWriter", "digits", "[B", true)
  | _ => ("DayDesk$NumberWriter", "size", "I", false)
def t_W : Nat → FieldType := fun k => match k with
  | 0 => .array .byte
  | 1 => .array .byte
  | _ => .int
def F_M : u_T := fun k => match k with
  | 0 => ("DayDeskModel", "ticks", "J", false)
  | 1 => ("DayDeskModel", "opening", "[J", true)
  | 2 => ("DayDeskModel", "moves", "I", false)
  | 3 => ("DayDeskModel", "moveOf", "[I", true)
  | 4 => ("DayDeskModel", "moveBy", "[J", true)
  | 5 => ("DayDeskModel", "written", "I", false)
  | _ => ("DayDeskModel", "text", "[I", true)
def t_M : Nat → FieldType := fun k => match k with
  | 0 => .long
  | 1 => .array .long
  | 2 => .int
  | 3 => .array .int
  | 4 => .array .long
  | 5 => .int
  | _ => .array .int
abbrev dd_cl : List vw_C := [(R_D, F_D, 3), (R_C, F_C, 3), (R_S, F_S, 5), (R_W, F_W, 3), (R_M, F_M, 7)]
abbrev b_D_init : ByteArray := prog_1_method_1_code
def y_D_init : MethodName := ⟨"DayDesk", "<init>", "()V"⟩
abbrev b_D_pass : ByteArray := prog_1_method_2_code
def y_D_pass : MethodName := ⟨"DayDesk", "pass", "()I"⟩
abbrev b_D_skip : ByteArray := prog_1_method_3_code
def y_D_skip : MethodName := ⟨"DayDesk", "skip", "(I)I"⟩
abbrev b_D_may : ByteArray := prog_1_method_4_code
def y_D_may : MethodName := ⟨"DayDesk", "may", "(IIZ)Z"⟩
abbrev b_D_look : ByteArray := prog_1_method_5_code
def y_D_look : MethodName := ⟨"DayDesk", "look", "(I)I"⟩
abbrev b_D_move : ByteArray := prog_1_method_6_code
def y_D_move : MethodName := ⟨"DayDesk", "move", "(IJ)I"⟩
abbrev b_D_row : ByteArray := prog_1_method_7_code
def y_D_row : MethodName := ⟨"DayDesk", "row", "(II)J"⟩
abbrev b_D_isTold : ByteArray := prog_1_method_8_code
def y_D_isTold : MethodName := ⟨"DayDesk", "isTold", "(I)Z"⟩
abbrev b_D_write : ByteArray := prog_1_method_9_code
def y_D_write : MethodName := ⟨"DayDesk", "write", "(I)I"⟩
abbrev b_D_at : ByteArray := prog_1_method_10_code
def y_D_at : MethodName := ⟨"DayDesk", "at", "(I)I"⟩
abbrev b_M_init : ByteArray := prog_7_method_1_code
def y_M_init : MethodName := ⟨"DayDeskModel", "<init>", "()V"⟩
abbrev b_M_tick : ByteArray := prog_7_method_2_code
def y_M_tick : MethodName := ⟨"DayDeskModel", "tick", "()I"⟩
abbrev b_M_isResolved : ByteArray := prog_7_method_3_code
def y_M_isResolved : MethodName := ⟨"DayDeskModel", "isResolved", "(I)Z"⟩
abbrev b_M_phaseOf : ByteArray := prog_7_method_4_code
def y_M_phaseOf : MethodName := ⟨"DayDeskModel", "phaseOf", "(I)I"⟩
abbrev b_M_begin : ByteArray := prog_7_method_5_code
def y_M_begin : MethodName := ⟨"DayDeskModel", "begin", "()V"⟩
abbrev b_M_pass : ByteArray := prog_7_method_6_code
def y_M_pass : MethodName := ⟨"DayDeskModel", "pass", "()I"⟩
abbrev b_M_skip : ByteArray := prog_7_method_7_code
def y_M_skip : MethodName := ⟨"DayDeskModel", "skip", "(I)I"⟩
abbrev b_M_may : ByteArray := prog_7_method_8_code
def y_M_may : MethodName := ⟨"DayDeskModel", "may", "(IIZ)Z"⟩
abbrev b_M_look : ByteArray := prog_7_method_9_code
def y_M_look : MethodName := ⟨"DayDeskModel", "look", "(I)I"⟩
abbrev b_M_isPosition : ByteArray := prog_7_method_10_code
def y_M_isPosition : MethodName := ⟨"DayDeskModel", "isPosition", "(I)Z"⟩
abbrev b_M_isWithin : ByteArray := prog_7_method_11_code
def y_M_isWithin : MethodName := ⟨"DayDeskModel", "isWithin", "(J)Z"⟩
abbrev b_M_move : ByteArray := prog_7_method_12_code
def y_M_move : MethodName := ⟨"DayDeskModel", "move", "(IJ)I"⟩
abbrev b_M_row : ByteArray := prog_7_method_13_code
def y_M_row : MethodName := ⟨"DayDeskModel", "row", "(II)J"⟩
abbrev b_M_isTold : ByteArray := prog_7_method_14_code
def y_M_isTold : MethodName := ⟨"DayDeskModel", "isTold", "(I)Z"⟩
abbrev b_M_put : ByteArray := prog_7_method_15_code
def y_M_put : MethodName := ⟨"DayDeskModel", "put", "(I)V"⟩
abbrev b_M_number : ByteArray := prog_7_method_16_code
def y_M_number : MethodName := ⟨"DayDeskModel", "number", "(J)V"⟩
abbrev b_M_write : ByteArray := prog_7_method_17_code
def y_M_write : MethodName := ⟨"DayDeskModel", "write", "(I)I"⟩
abbrev b_M_at : ByteArray := prog_7_method_18_code
def y_M_at : MethodName := ⟨"DayDeskModel", "at", "(I)I"⟩
abbrev b_C_init : ByteArray := prog_2_method_1_code
def y_C_init : MethodName := ⟨"DayDesk$DayClock", "<init>", "()V"⟩
abbrev b_C_phase : ByteArray := prog_2_method_2_code
def y_C_phase : MethodName := ⟨"DayDesk$DayClock", "phase", "()LDayDesk$Phase;"⟩
abbrev b_C_isResolved : ByteArray := prog_2_method_3_code
def y_C_isResolved : MethodName := ⟨"DayDesk$DayClock", "isResolved", "(I)Z"⟩
abbrev b_C_pass : ByteArray := prog_2_method_4_code
def y_C_pass : MethodName := ⟨"DayDesk$DayClock", "pass", "()I"⟩
abbrev b_C_may : ByteArray := prog_2_method_5_code
def y_C_may : MethodName := ⟨"DayDesk$DayClock", "may", "(IIZ)Z"⟩
abbrev b_C_tillResolved : ByteArray := prog_2_method_6_code
def y_C_tillResolved : MethodName := ⟨"DayDesk$DayClock", "tillResolved", "()I"⟩
abbrev b_C_tillPhase : ByteArray := prog_2_method_7_code
def y_C_tillPhase : MethodName := ⟨"DayDesk$DayClock", "tillPhase", "()I"⟩
abbrev b_W_init : ByteArray := prog_3_method_1_code
def y_W_init : MethodName := ⟨"DayDesk$NumberWriter", "<init>", "()V"⟩
abbrev b_W_blank : ByteArray := prog_3_method_2_code
def y_W_blank : MethodName := ⟨"DayDesk$NumberWriter", "blank", "()V"⟩
abbrev b_W_write : ByteArray := prog_3_method_3_code
def y_W_write : MethodName := ⟨"DayDesk$NumberWriter", "write", "(J)V"⟩
abbrev b_P_values : ByteArray := prog_4_method_1_code
def y_P_values : MethodName := ⟨"DayDesk$Phase", "values", "()[LDayDesk$Phase;"⟩
abbrev b_P_bars : ByteArray := prog_4_method_4_code
def y_P_bars : MethodName := ⟨"DayDesk$Phase", "bars", "(I)Z"⟩
abbrev b_S_init : ByteArray := prog_5_method_1_code
def y_S_init : MethodName := ⟨"DayDesk$Sums", "<init>", "(I)V"⟩
abbrev b_S_isPosition : ByteArray := prog_5_method_2_code
def y_S_isPosition : MethodName := ⟨"DayDesk$Sums", "isPosition", "(I)Z"⟩
abbrev b_S_isWithin : ByteArray := prog_5_method_3_code
def y_S_isWithin : MethodName := ⟨"DayDesk$Sums", "isWithin", "(JJ)Z"⟩
abbrev b_S_canMove : ByteArray := prog_5_method_4_code
def y_S_canMove : MethodName := ⟨"DayDesk$Sums", "canMove", "(IJ)Z"⟩
abbrev b_S_move : ByteArray := prog_5_method_5_code
def y_S_move : MethodName := ⟨"DayDesk$Sums", "move", "(IJ)V"⟩
abbrev b_S_isTold : ByteArray := prog_5_method_6_code
def y_S_isTold : MethodName := ⟨"DayDesk$Sums", "isTold", "(I)Z"⟩
abbrev b_S_of : ByteArray := prog_5_method_7_code
def y_S_of : MethodName := ⟨"DayDesk$Sums", "of", "(II)J"⟩
abbrev b_S_begin : ByteArray := prog_5_method_8_code
def y_S_begin : MethodName := ⟨"DayDesk$Sums", "begin", "()V"⟩
/-- the good words of the tables -/
def dd_gt : List Cond := lw_tbl.filter goodWord
abbrev w_D_init : List Cond := .code y_D_init b_D_init 1 none :: dd_gt
abbrev w_D_pass : List Cond := .code y_D_pass b_D_pass 2 (some FieldType.int) :: dd_gt
abbrev w_D_skip : List Cond := .code y_D_skip b_D_skip 4 (some FieldType.int) :: dd_gt
abbrev w_D_may : List Cond := .code y_D_may b_D_may 4 (some FieldType.boolean) :: dd_gt
abbrev w_D_look : List Cond := .code y_D_look b_D_look 2 (some FieldType.int) :: dd_gt
abbrev w_D_move : List Cond := .code y_D_move b_D_move 4 (some FieldType.int) :: dd_gt
abbrev w_D_row : List Cond := .code y_D_row b_D_row 3 (some FieldType.long) :: dd_gt
abbrev w_D_isTold : List Cond := .code y_D_isTold b_D_isTold 2 (some FieldType.boolean) :: dd_gt
abbrev w_D_write : List Cond := .code y_D_write b_D_write 3 (some FieldType.int) :: dd_gt
abbrev w_D_at : List Cond := .code y_D_at b_D_at 2 (some FieldType.int) :: dd_gt
abbrev w_M_init : List Cond := .code y_M_init b_M_init 1 none :: dd_gt
abbrev w_M_tick : List Cond := .code y_M_tick b_M_tick 1 (some FieldType.int) :: dd_gt
abbrev w_M_isResolved : List Cond := .code y_M_isResolved b_M_isResolved 1 (some FieldType.boolean) :: dd_gt
abbrev w_M_phaseOf : List Cond := .code y_M_phaseOf b_M_phaseOf 1 (some FieldType.int) :: dd_gt
abbrev w_M_begin : List Cond := .code y_M_begin b_M_begin 2 none :: dd_gt
abbrev w_M_pass : List Cond := .code y_M_pass b_M_pass 2 (some FieldType.int) :: dd_gt
abbrev w_M_skip : List Cond := .code y_M_skip b_M_skip 4 (some FieldType.int) :: dd_gt
abbrev w_M_may : List Cond := .code y_M_may b_M_may 7 (some FieldType.boolean) :: dd_gt
abbrev w_M_look : List Cond := .code y_M_look b_M_look 5 (some FieldType.int) :: dd_gt
abbrev w_M_isPosition : List Cond := .code y_M_isPosition b_M_isPosition 1 (some FieldType.boolean) :: dd_gt
abbrev w_M_isWithin : List Cond := .code y_M_isWithin b_M_isWithin 2 (some FieldType.boolean) :: dd_gt
abbrev w_M_move : List Cond := .code y_M_move b_M_move 4 (some FieldType.int) :: dd_gt
abbrev w_M_row : List Cond := .code y_M_row b_M_row 10 (some FieldType.long) :: dd_gt
abbrev w_M_isTold : List Cond := .code y_M_isTold b_M_isTold 2 (some FieldType.boolean) :: dd_gt
abbrev w_M_put : List Cond := .code y_M_put b_M_put 2 none :: dd_gt
abbrev w_M_number : List Cond := .code y_M_number b_M_number 9 none :: dd_gt
abbrev w_M_write : List Cond := .code y_M_write b_M_write 3 (some FieldType.int) :: dd_gt
abbrev w_M_at : List Cond := .code y_M_at b_M_at 2 (some FieldType.int) :: dd_gt
abbrev w_C_init : List Cond := .code y_C_init b_C_init 1 none :: dd_gt
abbrev w_C_phase : List Cond := .code y_C_phase b_C_phase 2 (some (FieldType.object "DayDesk$Phase")) :: dd_gt
abbrev w_C_isResolved : List Cond := .code y_C_isResolved b_C_isResolved 1 (some FieldType.boolean) :: dd_gt
abbrev w_C_pass : List Cond := .code y_C_pass b_C_pass 1 (some FieldType.int) :: dd_gt
abbrev w_C_may : List Cond := .code y_C_may b_C_may 5 (some FieldType.boolean) :: dd_gt
abbrev w_C_tillResolved : List Cond := .code y_C_tillResolved b_C_tillResolved 2 (some FieldType.int) :: dd_gt
abbrev w_C_tillPhase : List Cond := .code y_C_tillPhase b_C_tillPhase 2 (some FieldType.int) :: dd_gt
abbrev w_W_init : List Cond := .code y_W_init b_W_init 1 none :: dd_gt
abbrev w_W_blank : List Cond := .code y_W_blank b_W_blank 1 none :: dd_gt
abbrev w_W_write : List Cond := .code y_W_write b_W_write 7 none :: dd_gt
abbrev w_P_values : List Cond := .code y_P_values b_P_values 0 (some (FieldType.array (FieldType.object "DayDesk$Phase"))) :: dd_gt
abbrev w_P_bars : List Cond := .code y_P_bars b_P_bars 2 (some FieldType.boolean) :: dd_gt
abbrev w_S_init : List Cond := .code y_S_init b_S_init 2 none :: dd_gt
abbrev w_S_isPosition : List Cond := .code y_S_isPosition b_S_isPosition 2 (some FieldType.boolean) :: dd_gt
abbrev w_S_isWithin : List Cond := .code y_S_isWithin b_S_isWithin 4 (some FieldType.boolean) :: dd_gt
abbrev w_S_canMove : List Cond := .code y_S_canMove b_S_canMove 4 (some FieldType.boolean) :: dd_gt
abbrev w_S_move : List Cond := .code y_S_move b_S_move 4 none :: dd_gt
abbrev w_S_isTold : List Cond := .code y_S_isTold b_S_isTold 2 (some FieldType.boolean) :: dd_gt
abbrev w_S_of : List Cond := .code y_S_of b_S_of 3 (some FieldType.long) :: dd_gt
abbrev w_S_begin : List Cond := .code y_S_begin b_S_begin 2 none :: dd_gt
theorem dd_good : ∀ w ∈ dd_gt, (w.onTables && w.keeps) = true ∨ ∃ ty, w = .arrayClass ty := fun w h => good_of_word (List.mem_filter.mp h).2
theorem dd_gi {w : Cond} (h : w ∈ dd_gt) : GoodIn dd_gt (w :: dd_gt) := fun v hv => by
  rcases List.mem_cons.mp hv with rfl | hv
  · exact ⟨h, dd_good _ h⟩
  · exact ⟨hv, dd_good _ hv⟩
theorem dd_gV {own C : String} {idx : Nat} {y : MethodName} {w : Cond} (h1 : Cond.methodLink own idx y ∈ dd_gt) (h2 : Cond.instanceMethod y ∈ dd_gt) (h3 : Cond.selects C y y ∈ dd_gt) (h4 : Cond.initialized C ∈ dd_gt) (h : w ∈ dd_gt) : GoodIn dd_gt (wsV own idx C y (w :: dd_gt)) := fun v hv => by
  unfold wsV at hv
  rcases List.mem_append.mp hv with hv | hv
  · have hv2 : v ∈ dd_gt := by
      simp only [List.mem_cons, List.not_mem_nil, or_false] at hv
      rcases hv with rfl | rfl | rfl | rfl <;> assumption
    exact ⟨hv2, dd_good _ hv2⟩
  · exact dd_gi h v hv
theorem dd_gS {own : String} {idx : Nat} {y : MethodName} {w : Cond} (h1 : Cond.methodLink own idx y ∈ dd_gt) (h2 : Cond.static y ∈ dd_gt) (h4 : Cond.initialized y.cls ∈ dd_gt) (h : w ∈ dd_gt) : GoodIn dd_gt (va_wsS own idx y (w :: dd_gt)) := fun v hv => by
  unfold va_wsS at hv
  rcases List.mem_append.mp hv with hv | hv
  · have hv2 : v ∈ dd_gt := by
      simp only [List.mem_cons, List.not_mem_nil, or_false] at hv
      rcases hv with rfl | rfl | rfl <;> assumption
    exact ⟨hv2, dd_good _ hv2⟩
  · exact dd_gi h v hv
set_option maxRecDepth 20000 in
theorem tb_0 : Cond.initialized "DayDeskLaw" ∈ dd_gt := List.mem_filter.mpr ⟨List.mem_of_getElem? (i := 4) (by decide +kernel), rfl⟩
set_option maxRecDepth 20000 in
theorem tb_1 : Cond.initialized "DayDesk" ∈ dd_gt := List.mem_filter.mpr ⟨List.mem_of_getElem? (i := 5) (by decide +kernel), rfl⟩
set_option maxRecDepth 20000 in
theorem tb_2 : Cond.initialized "DayDesk$DayClock" ∈ dd_gt := List.mem_filter.mpr ⟨List.mem_of_getElem? (i := 6) (by decide +kernel), rfl⟩
set_option maxRecDepth 20000 in
theorem tb_3 : Cond.initialized "java/lang/Enum" ∈ dd_gt := List.mem_filter.mpr ⟨List.mem_of_getElem? (i := 7) (by decide +kernel), rfl⟩
set_option maxRecDepth 20000 in
theorem tb_4 : Cond.initialized "DayDesk$Phase" ∈ dd_gt := List.mem_filter.mpr ⟨List.mem_of_getElem? (i := 8) (by decide +kernel), rfl⟩
set_option maxRecDepth 20000 in
theorem tb_5 : Cond.initialized "DayDesk$Sums" ∈ dd_gt := List.mem_filter.mpr ⟨List.mem_of_getElem? (i := 9) (by decide +kernel), rfl⟩
set_option maxRecDepth 20000 in
theorem tb_6 : Cond.initialized "DayDesk$NumberWriter" ∈ dd_gt := List.mem_filter.mpr ⟨List.mem_of_getElem? (i := 10) (by decide +kernel), rfl⟩
set_option maxRecDepth 20000 in
theorem tb_7 : Cond.initialized "DayDeskModel" ∈ dd_gt := List.mem_filter.mpr ⟨List.mem_of_getElem? (i := 11) (by decide +kernel), rfl⟩
set_option maxRecDepth 20000 in
theorem tb_8 : Cond.classLink "DayDeskLaw" 7 "DayDesk" ∈ dd_gt := List.mem_filter.mpr ⟨List.mem_of_getElem? (i := 12) (by decide +kernel), rfl⟩
set_option maxRecDepth 20000 in
theorem tb_9 : Cond.instantiable "DayDesk" 3 ∈ dd_gt := List.mem_filter.mpr ⟨List.mem_of_getElem? (i := 13) (by decide +kernel), rfl⟩
set_option maxRecDepth 20000 in
theorem tb_10 : Cond.methodLink "DayDeskLaw" 9 ⟨"DayDesk", "<init>", "()V"⟩ ∈ dd_gt := List.mem_filter.mpr ⟨List.mem_of_getElem? (i := 14) (by decide +kernel), rfl⟩
set_option maxRecDepth 20000 in
theorem tb_11 : Cond.instanceMethod ⟨"DayDesk", "<init>", "()V"⟩ ∈ dd_gt := List.mem_filter.mpr ⟨List.mem_of_getElem? (i := 15) (by decide +kernel), rfl⟩
set_option maxRecDepth 20000 in
theorem tb_12 : Cond.code ⟨"DayDesk", "<init>", "()V"⟩ prog_1_method_1_code 1 (Option.none : Option FieldType) ∈ dd_gt := List.mem_filter.mpr ⟨List.mem_of_getElem? (i := 16) rfl, rfl⟩
set_option maxRecDepth 20000 in
theorem tb_13 : Cond.methodLink "DayDesk" 1 ⟨"java/lang/Object", "<init>", "()V"⟩ ∈ dd_gt := List.mem_filter.mpr ⟨List.mem_of_getElem? (i := 17) (by decide +kernel), rfl⟩
set_option maxRecDepth 20000 in
theorem tb_14 : Cond.instanceMethod ⟨"java/lang/Object", "<init>", "()V"⟩ ∈ dd_gt := List.mem_filter.mpr ⟨List.mem_of_getElem? (i := 18) (by decide +kernel), rfl⟩
set_option maxRecDepth 20000 in
theorem tb_15 : Cond.code ⟨"java/lang/Object", "<init>", "()V"⟩ object_method_1_code 1 (Option.none : Option FieldType) ∈ dd_gt := List.mem_filter.mpr ⟨List.mem_of_getElem? (i := 19) rfl, rfl⟩
set_option maxRecDepth 20000 in
theorem tb_16 : Cond.classLink "DayDesk" 7 "DayDesk$DayClock" ∈ dd_gt := List.mem_filter.mpr ⟨List.mem_of_getElem? (i := 20) (by decide +kernel), rfl⟩
set_option maxRecDepth 20000 in
theorem tb_17 : Cond.instantiable "DayDesk$DayClock" 3 ∈ dd_gt := List.mem_filter.mpr ⟨List.mem_of_getElem? (i := 21) (by decide +kernel), rfl⟩
set_option maxRecDepth 20000 in
theorem tb_19 : Cond.instanceMethod ⟨"DayDesk$DayClock", "<init>", "()V"⟩ ∈ dd_gt := List.mem_filter.mpr ⟨List.mem_of_getElem? (i := 23) (by decide +kernel), rfl⟩
set_option maxRecDepth 20000 in
theorem tb_20 : Cond.code ⟨"DayDesk$DayClock", "<init>", "()V"⟩ prog_2_method_1_code 1 (Option.none : Option FieldType) ∈ dd_gt := List.mem_filter.mpr ⟨List.mem_of_getElem? (i := 24) rfl, rfl⟩
set_option maxRecDepth 20000 in
theorem tb_21 : Cond.methodLink "DayDesk$DayClock" 1 ⟨"java/lang/Object", "<init>", "()V"⟩ ∈ dd_gt := List.mem_filter.mpr ⟨List.mem_of_getElem? (i := 25) (by decide +kernel), rfl⟩
set_option maxRecDepth 20000 in
theorem tb_22 : Cond.methodLink "DayDesk$DayClock" 7 ⟨"DayDesk$Phase", "values", "()[LDayDesk$Phase;"⟩ ∈ dd_gt := List.mem_filter.mpr ⟨List.mem_of_getElem? (i := 26) (by decide +kernel), rfl⟩
set_option maxRecDepth 20000 in
theorem tb_23 : Cond.static ⟨"DayDesk$Phase", "values", "()[LDayDesk$Phase;"⟩ ∈ dd_gt := List.mem_filter.mpr ⟨List.mem_of_getElem? (i := 27) (by decide +kernel), rfl⟩
set_option maxRecDepth 20000 in
theorem tb_24 : Cond.code ⟨"DayDesk$Phase", "values", "()[LDayDesk$Phase;"⟩ prog_4_method_1_code 0 (Option.some (FieldType.array (FieldType.object "DayDesk$Phase"))) ∈ dd_gt := List.mem_filter.mpr ⟨List.mem_of_getElem? (i := 28) rfl, rfl⟩
set_option maxRecDepth 20000 in
theorem tb_25 : Cond.fieldLink "DayDesk$Phase" 19 "DayDesk$Phase" "$VALUES" "[LDayDesk$Phase;" ∈ dd_gt := List.mem_filter.mpr ⟨List.mem_of_getElem? (i := 29) (by decide +kernel), rfl⟩
set_option maxRecDepth 20000 in
theorem tb_27 : Cond.methodLink "DayDesk$Phase" 23 ⟨"[LDayDesk$Phase;", "clone", "()Ljava/lang/Object;"⟩ ∈ dd_gt := List.mem_filter.mpr ⟨List.mem_of_getElem? (i := 31) (by decide +kernel), rfl⟩
set_option maxRecDepth 20000 in
theorem tb_28 : Cond.sameMethod "[LDayDesk$Phase;" "java/lang/Object" "clone" "()Ljava/lang/Object;" ∈ dd_gt := List.mem_filter.mpr ⟨List.mem_of_getElem? (i := 32) (by decide +kernel), rfl⟩
set_option maxRecDepth 20000 in
theorem tb_29 : Cond.native ⟨"java/lang/Object", "clone", "()Ljava/lang/Object;"⟩ ∈ dd_gt := List.mem_filter.mpr ⟨List.mem_of_getElem? (i := 33) (by decide +kernel), rfl⟩
set_option maxRecDepth 20000 in
theorem tb_30 : Cond.instanceMethod ⟨"java/lang/Object", "clone", "()Ljava/lang/Object;"⟩ ∈ dd_gt := List.mem_filter.mpr ⟨List.mem_of_getElem? (i := 34) (by decide +kernel), rfl⟩
set_option maxRecDepth 20000 in
theorem tb_31 : Cond.selects "[LDayDesk$Phase;" ⟨"[LDayDesk$Phase;", "clone", "()Ljava/lang/Object;"⟩ ⟨"java/lang/Object", "clone", "()Ljava/lang/Object;"⟩ ∈ dd_gt := List.mem_filter.mpr ⟨List.mem_of_getElem? (i := 35) (by decide +kernel), rfl⟩
set_option maxRecDepth 20000 in
theorem tb_34 : Cond.classLink "DayDesk$Phase" 24 "[LDayDesk$Phase;" ∈ dd_gt := List.mem_filter.mpr ⟨List.mem_of_getElem? (i := 38) (by decide +kernel), rfl⟩
set_option maxRecDepth 20000 in
theorem tb_35 : Cond.fieldLink "DayDesk$DayClock" 13 "DayDesk$DayClock" "phases" "[LDayDesk$Phase;" ∈ dd_gt := List.mem_filter.mpr ⟨List.mem_of_getElem? (i := 39) (by decide +kernel), rfl⟩
set_option maxRecDepth 20000 in
theorem tb_36 : Cond.fieldLink "DayDesk$DayClock" 26 "DayDesk$DayClock" "day" "I" ∈ dd_gt := List.mem_filter.mpr ⟨List.mem_of_getElem? (i := 40) (by decide +kernel), rfl⟩
set_option maxRecDepth 20000 in
theorem tb_38 : Cond.fieldLink "DayDesk$DayClock" 23 "DayDesk$DayClock" "tick" "I" ∈ dd_gt := List.mem_filter.mpr ⟨List.mem_of_getElem? (i := 42) (by decide +kernel), rfl⟩
set_option maxRecDepth 20000 in
theorem tb_40 : Cond.laysFinal "DayDesk$DayClock" "DayDesk$DayClock" "phases" "[LDayDesk$Phase;" ∈ dd_gt := List.mem_filter.mpr ⟨List.mem_of_getElem? (i := 44) (by decide +kernel), rfl⟩
set_option maxRecDepth 20000 in
theorem tb_41 : Cond.soleField "DayDesk$DayClock" "phases" ∈ dd_gt := List.mem_filter.mpr ⟨List.mem_of_getElem? (i := 45) (by decide +kernel), rfl⟩
set_option maxRecDepth 20000 in
theorem tb_42 : Cond.lays "DayDesk$DayClock" "DayDesk$DayClock" "day" "I" ∈ dd_gt := List.mem_filter.mpr ⟨List.mem_of_getElem? (i := 46) (by decide +kernel), rfl⟩
set_option maxRecDepth 20000 in
theorem tb_43 : Cond.soleField "DayDesk$DayClock" "day" ∈ dd_gt := List.mem_filter.mpr ⟨List.mem_of_getElem? (i := 47) (by decide +kernel), rfl⟩
set_option maxRecDepth 20000 in
theorem tb_44 : Cond.lays "DayDesk$DayClock" "DayDesk$DayClock" "tick" "I" ∈ dd_gt := List.mem_filter.mpr ⟨List.mem_of_getElem? (i := 48) (by decide +kernel), rfl⟩
set_option maxRecDepth 20000 in
theorem tb_45 : Cond.soleField "DayDesk$DayClock" "tick" ∈ dd_gt := List.mem_filter.mpr ⟨List.mem_of_getElem? (i := 49) (by decide +kernel), rfl⟩
set_option maxRecDepth 20000 in
theorem tb_46 : Cond.superclass "DayDesk$DayClock" "java/lang/Object" ∈ dd_gt := List.mem_filter.mpr ⟨List.mem_of_getElem? (i := 50) (by decide +kernel), rfl⟩
set_option maxRecDepth 20000 in
theorem tb_47 : Cond.classLink "DayDesk" 16 "DayDesk$Sums" ∈ dd_gt := List.mem_filter.mpr ⟨List.mem_of_getElem? (i := 51) (by decide +kernel), rfl⟩
set_option maxRecDepth 20000 in
theorem tb_48 : Cond.instantiable "DayDesk$Sums" 5 ∈ dd_gt := List.mem_filter.mpr ⟨List.mem_of_getElem? (i := 52) (by decide +kernel), rfl⟩
set_option maxRecDepth 20000 in
theorem tb_49 : Cond.methodLink "DayDesk" 18 ⟨"DayDesk$Sums", "<init>", "(I)V"⟩ ∈ dd_gt := List.mem_filter.mpr ⟨List.mem_of_getElem? (i := 53) (by decide +kernel), rfl⟩
set_option maxRecDepth 20000 in
theorem tb_50 : Cond.instanceMethod ⟨"DayDesk$Sums", "<init>", "(I)V"⟩ ∈ dd_gt := List.mem_filter.mpr ⟨List.mem_of_getElem? (i := 54) (by decide +kernel), rfl⟩
set_option maxRecDepth 20000 in
theorem tb_51 : Cond.code ⟨"DayDesk$Sums", "<init>", "(I)V"⟩ prog_5_method_1_code 2 (Option.none : Option FieldType) ∈ dd_gt := List.mem_filter.mpr ⟨List.mem_of_getElem? (i := 55) rfl, rfl⟩
set_option maxRecDepth 20000 in
theorem tb_52 : Cond.methodLink "DayDesk$Sums" 1 ⟨"java/lang/Object", "<init>", "()V"⟩ ∈ dd_gt := List.mem_filter.mpr ⟨List.mem_of_getElem? (i := 56) (by decide +kernel), rfl⟩
set_option maxRecDepth 20000 in
theorem tb_53 : Cond.fieldLink "DayDesk$Sums" 7 "DayDesk$Sums" "opening" "[J" ∈ dd_gt := List.mem_filter.mpr ⟨List.mem_of_getElem? (i := 57) (by decide +kernel), rfl⟩
set_option maxRecDepth 20000 in
theorem tb_54 : Cond.fieldLink "DayDesk$Sums" 13 "DayDesk$Sums" "went" "[J" ∈ dd_gt := List.mem_filter.mpr ⟨List.mem_of_getElem? (i := 58) (by decide +kernel), rfl⟩
set_option maxRecDepth 20000 in
theorem tb_55 : Cond.fieldLink "DayDesk$Sums" 16 "DayDesk$Sums" "came" "[J" ∈ dd_gt := List.mem_filter.mpr ⟨List.mem_of_getElem? (i := 59) (by decide +kernel), rfl⟩
set_option maxRecDepth 20000 in
theorem tb_56 : Cond.fieldLink "DayDesk$Sums" 19 "DayDesk$Sums" "now" "[J" ∈ dd_gt := List.mem_filter.mpr ⟨List.mem_of_getElem? (i := 60) (by decide +kernel), rfl⟩
set_option maxRecDepth 20000 in
theorem tb_57 : Cond.fieldLink "DayDesk$Sums" 22 "DayDesk$Sums" "moved" "[I" ∈ dd_gt := List.mem_filter.mpr ⟨List.mem_of_getElem? (i := 61) (by decide +kernel), rfl⟩
set_option maxRecDepth 20000 in
theorem tb_58 : Cond.laysFinal "DayDesk$Sums" "DayDesk$Sums" "opening" "[J" ∈ dd_gt := List.mem_filter.mpr ⟨List.mem_of_getElem? (i := 62) (by decide +kernel), rfl⟩
set_option maxRecDepth 20000 in
theorem tb_59 : Cond.soleField "DayDesk$Sums" "opening" ∈ dd_gt := List.mem_filter.mpr ⟨List.mem_of_getElem? (i := 63) (by decide +kernel), rfl⟩
set_option maxRecDepth 20000 in
theorem tb_60 : Cond.laysFinal "DayDesk$Sums" "DayDesk$Sums" "went" "[J" ∈ dd_gt := List.mem_filter.mpr ⟨List.mem_of_getElem? (i := 64) (by decide +kernel), rfl⟩
set_option maxRecDepth 20000 in
theorem tb_61 : Cond.soleField "DayDesk$Sums" "went" ∈ dd_gt := List.mem_filter.mpr ⟨List.mem_of_getElem? (i := 65) (by decide +kernel), rfl⟩
set_option maxRecDepth 20000 in
theorem tb_62 : Cond.laysFinal "DayDesk$Sums" "DayDesk$Sums" "came" "[J" ∈ dd_gt := List.mem_filter.mpr ⟨List.mem_of_getElem? (i := 66) (by decide +kernel), rfl⟩
set_option maxRecDepth 20000 in
theorem tb_63 : Cond.soleField "DayDesk$Sums" "came" ∈ dd_gt := List.mem_filter.mpr ⟨List.mem_of_getElem? (i := 67) (by decide +kernel), rfl⟩
set_option maxRecDepth 20000 in
theorem tb_64 : Cond.laysFinal "DayDesk$Sums" "DayDesk$Sums" "now" "[J" ∈ dd_gt := List.mem_filter.mpr ⟨List.mem_of_getElem? (i := 68) (by decide +kernel), rfl⟩
set_option maxRecDepth 20000 in
theorem tb_65 : Cond.soleField "DayDesk$Sums" "now" ∈ dd_gt := List.mem_filter.mpr ⟨List.mem_of_getElem? (i := 69) (by decide +kernel), rfl⟩
set_option maxRecDepth 20000 in
theorem tb_66 : Cond.laysFinal "DayDesk$Sums" "DayDesk$Sums" "moved" "[I" ∈ dd_gt := List.mem_filter.mpr ⟨List.mem_of_getElem? (i := 70) (by decide +kernel), rfl⟩
set_option maxRecDepth 20000 in
theorem tb_67 : Cond.soleField "DayDesk$Sums" "moved" ∈ dd_gt := List.mem_filter.mpr ⟨List.mem_of_getElem? (i := 71) (by decide +kernel), rfl⟩
set_option maxRecDepth 20000 in
theorem tb_68 : Cond.superclass "DayDesk$Sums" "java/lang/Object" ∈ dd_gt := List.mem_filter.mpr ⟨List.mem_of_getElem? (i := 72) (by decide +kernel), rfl⟩
set_option maxRecDepth 20000 in
theorem tb_69 : Cond.arrayClass FieldType.long ∈ dd_gt := List.mem_filter.mpr ⟨List.mem_of_getElem? (i := 73) (by decide +kernel), rfl⟩
set_option maxRecDepth 20000 in
theorem tb_70 : Cond.arrayClass FieldType.int ∈ dd_gt := List.mem_filter.mpr ⟨List.mem_of_getElem? (i := 74) (by decide +kernel), rfl⟩
set_option maxRecDepth 20000 in
theorem tb_71 : Cond.classLink "DayDesk" 25 "DayDesk$NumberWriter" ∈ dd_gt := List.mem_filter.mpr ⟨List.mem_of_getElem? (i := 75) (by decide +kernel), rfl⟩
set_option maxRecDepth 20000 in
theorem tb_72 : Cond.instantiable "DayDesk$NumberWriter" 3 ∈ dd_gt := List.mem_filter.mpr ⟨List.mem_of_getElem? (i := 76) (by decide +kernel), rfl⟩
set_option maxRecDepth 20000 in
theorem tb_74 : Cond.instanceMethod ⟨"DayDesk$NumberWriter", "<init>", "()V"⟩ ∈ dd_gt := List.mem_filter.mpr ⟨List.mem_of_getElem? (i := 78) (by decide +kernel), rfl⟩
set_option maxRecDepth 20000 in
theorem tb_75 : Cond.code ⟨"DayDesk$NumberWriter", "<init>", "()V"⟩ prog_3_method_1_code 1 (Option.none : Option FieldType) ∈ dd_gt := List.mem_filter.mpr ⟨List.mem_of_getElem? (i := 79) rfl, rfl⟩
set_option maxRecDepth 20000 in
theorem tb_76 : Cond.methodLink "DayDesk$NumberWriter" 1 ⟨"java/lang/Object", "<init>", "()V"⟩ ∈ dd_gt := List.mem_filter.mpr ⟨List.mem_of_getElem? (i := 80) (by decide +kernel), rfl⟩
set_option maxRecDepth 20000 in
theorem tb_77 : Cond.fieldLink "DayDesk$NumberWriter" 9 "DayDesk$NumberWriter" "bytes" "[B" ∈ dd_gt := List.mem_filter.mpr ⟨List.mem_of_getElem? (i := 81) (by decide +kernel), rfl⟩
set_option maxRecDepth 20000 in
theorem tb_79 : Cond.fieldLink "DayDesk$NumberWriter" 13 "DayDesk$NumberWriter" "digits" "[B" ∈ dd_gt := List.mem_filter.mpr ⟨List.mem_of_getElem? (i := 83) (by decide +kernel), rfl⟩
set_option maxRecDepth 20000 in
theorem tb_80 : Cond.fieldLink "DayDesk$NumberWriter" 16 "DayDesk$NumberWriter" "size" "I" ∈ dd_gt := List.mem_filter.mpr ⟨List.mem_of_getElem? (i := 84) (by decide +kernel), rfl⟩
set_option maxRecDepth 20000 in
theorem tb_82 : Cond.laysFinal "DayDesk$NumberWriter" "DayDesk$NumberWriter" "bytes" "[B" ∈ dd_gt := List.mem_filter.mpr ⟨List.mem_of_getElem? (i := 86) (by decide +kernel), rfl⟩
set_option maxRecDepth 20000 in
theorem tb_83 : Cond.soleField "DayDesk$NumberWriter" "bytes" ∈ dd_gt := List.mem_filter.mpr ⟨List.mem_of_getElem? (i := 87) (by decide +kernel), rfl⟩
set_option maxRecDepth 20000 in
theorem tb_84 : Cond.laysFinal "DayDesk$NumberWriter" "DayDesk$NumberWriter" "digits" "[B" ∈ dd_gt := List.mem_filter.mpr ⟨List.mem_of_getElem? (i := 88) (by decide +kernel), rfl⟩
set_option maxRecDepth 20000 in
theorem tb_85 : Cond.soleField "DayDesk$NumberWriter" "digits" ∈ dd_gt := List.mem_filter.mpr ⟨List.mem_of_getElem? (i := 89) (by decide +kernel), rfl⟩
set_option maxRecDepth 20000 in
theorem tb_86 : Cond.lays "DayDesk$NumberWriter" "DayDesk$NumberWriter" "size" "I" ∈ dd_gt := List.mem_filter.mpr ⟨List.mem_of_getElem? (i := 90) (by decide +kernel), rfl⟩
set_option maxRecDepth 20000 in
theorem tb_87 : Cond.soleField "DayDesk$NumberWriter" "size" ∈ dd_gt := List.mem_filter.mpr ⟨List.mem_of_getElem? (i := 91) (by decide +kernel), rfl⟩
set_option maxRecDepth 20000 in
theorem tb_88 : Cond.superclass "DayDesk$NumberWriter" "java/lang/Object" ∈ dd_gt := List.mem_filter.mpr ⟨List.mem_of_getElem? (i := 92) (by decide +kernel), rfl⟩
set_option maxRecDepth 20000 in
theorem tb_89 : Cond.arrayClass FieldType.byte ∈ dd_gt := List.mem_filter.mpr ⟨List.mem_of_getElem? (i := 93) (by decide +kernel), rfl⟩
set_option maxRecDepth 20000 in
theorem tb_90 : Cond.fieldLink "DayDesk" 10 "DayDesk" "clock" "LDayDesk$DayClock;" ∈ dd_gt := List.mem_filter.mpr ⟨List.mem_of_getElem? (i := 94) (by decide +kernel), rfl⟩
set_option maxRecDepth 20000 in
theorem tb_91 : Cond.fieldLink "DayDesk" 21 "DayDesk" "sums" "LDayDesk$Sums;" ∈ dd_gt := List.mem_filter.mpr ⟨List.mem_of_getElem? (i := 95) (by decide +kernel), rfl⟩
set_option maxRecDepth 20000 in
theorem tb_92 : Cond.fieldLink "DayDesk" 28 "DayDesk" "writer" "LDayDesk$NumberWriter;" ∈ dd_gt := List.mem_filter.mpr ⟨List.mem_of_getElem? (i := 96) (by decide +kernel), rfl⟩
set_option maxRecDepth 20000 in
theorem tb_93 : Cond.laysFinal "DayDesk" "DayDesk" "clock" "LDayDesk$DayClock;" ∈ dd_gt := List.mem_filter.mpr ⟨List.mem_of_getElem? (i := 97) (by decide +kernel), rfl⟩
set_option maxRecDepth 20000 in
theorem tb_94 : Cond.soleField "DayDesk" "clock" ∈ dd_gt := List.mem_filter.mpr ⟨List.mem_of_getElem? (i := 98) (by decide +kernel), rfl⟩
set_option maxRecDepth 20000 in
theorem tb_95 : Cond.laysFinal "DayDesk" "DayDesk" "sums" "LDayDesk$Sums;" ∈ dd_gt := List.mem_filter.mpr ⟨List.mem_of_getElem? (i := 99) (by decide +kernel), rfl⟩
set_option maxRecDepth 20000 in
theorem tb_96 : Cond.soleField "DayDesk" "sums" ∈ dd_gt := List.mem_filter.mpr ⟨List.mem_of_getElem? (i := 100) (by decide +kernel), rfl⟩
set_option maxRecDepth 20000 in
theorem tb_97 : Cond.laysFinal "DayDesk" "DayDesk" "writer" "LDayDesk$NumberWriter;" ∈ dd_gt := List.mem_filter.mpr ⟨List.mem_of_getElem? (i := 101) (by decide +kernel), rfl⟩
set_option maxRecDepth 20000 in
theorem tb_98 : Cond.soleField "DayDesk" "writer" ∈ dd_gt := List.mem_filter.mpr ⟨List.mem_of_getElem? (i := 102) (by decide +kernel), rfl⟩
set_option maxRecDepth 20000 in
theorem tb_99 : Cond.superclass "DayDesk" "java/lang/Object" ∈ dd_gt := List.mem_filter.mpr ⟨List.mem_of_getElem? (i := 103) (by decide +kernel), rfl⟩
set_option maxRecDepth 20000 in
theorem tb_100 : Cond.methodLink "DayDeskLaw" 13 ⟨"DayDesk", "pass", "()I"⟩ ∈ dd_gt := List.mem_filter.mpr ⟨List.mem_of_getElem? (i := 104) (by decide +kernel), rfl⟩
set_option maxRecDepth 20000 in
theorem tb_101 : Cond.instanceMethod ⟨"DayDesk", "pass", "()I"⟩ ∈ dd_gt := List.mem_filter.mpr ⟨List.mem_of_getElem? (i := 105) (by decide +kernel), rfl⟩
set_option maxRecDepth 20000 in
theorem tb_102 : Cond.selects "DayDesk" ⟨"DayDesk", "pass", "()I"⟩ ⟨"DayDesk", "pass", "()I"⟩ ∈ dd_gt := List.mem_filter.mpr ⟨List.mem_of_getElem? (i := 106) (by decide +kernel), rfl⟩
set_option maxRecDepth 20000 in
theorem tb_103 : Cond.code ⟨"DayDesk", "pass", "()I"⟩ prog_1_method_2_code 2 (Option.some FieldType.int) ∈ dd_gt := List.mem_filter.mpr ⟨List.mem_of_getElem? (i := 107) rfl, rfl⟩
set_option maxRecDepth 20000 in
theorem tb_104 : Cond.methodLink "DayDesk" 32 ⟨"DayDesk$DayClock", "pass", "()I"⟩ ∈ dd_gt := List.mem_filter.mpr ⟨List.mem_of_getElem? (i := 108) (by decide +kernel), rfl⟩
set_option maxRecDepth 20000 in
theorem tb_105 : Cond.instanceMethod ⟨"DayDesk$DayClock", "pass", "()I"⟩ ∈ dd_gt := List.mem_filter.mpr ⟨List.mem_of_getElem? (i := 109) (by decide +kernel), rfl⟩
set_option maxRecDepth 20000 in
theorem tb_106 : Cond.selects "DayDesk$DayClock" ⟨"DayDesk$DayClock", "pass", "()I"⟩ ⟨"DayDesk$DayClock", "pass", "()I"⟩ ∈ dd_gt := List.mem_filter.mpr ⟨List.mem_of_getElem? (i := 110) (by decide +kernel), rfl⟩
set_option maxRecDepth 20000 in
theorem tb_107 : Cond.code ⟨"DayDesk$DayClock", "pass", "()I"⟩ prog_2_method_4_code 1 (Option.some FieldType.int) ∈ dd_gt := List.mem_filter.mpr ⟨List.mem_of_getElem? (i := 111) rfl, rfl⟩
set_option maxRecDepth 20000 in
theorem tb_108 : Cond.methodLink "DayDesk$DayClock" 29 ⟨"DayDesk$DayClock", "isResolved", "(I)Z"⟩ ∈ dd_gt := List.mem_filter.mpr ⟨List.mem_of_getElem? (i := 112) (by decide +kernel), rfl⟩
set_option maxRecDepth 20000 in
theorem tb_109 : Cond.static ⟨"DayDesk$DayClock", "isResolved", "(I)Z"⟩ ∈ dd_gt := List.mem_filter.mpr ⟨List.mem_of_getElem? (i := 113) (by decide +kernel), rfl⟩
set_option maxRecDepth 20000 in
theorem tb_110 : Cond.code ⟨"DayDesk$DayClock", "isResolved", "(I)Z"⟩ prog_2_method_3_code 1 (Option.some FieldType.boolean) ∈ dd_gt := List.mem_filter.mpr ⟨List.mem_of_getElem? (i := 114) rfl, rfl⟩
set_option maxRecDepth 20000 in
theorem tb_111 : Cond.methodLink "DayDesk" 36 ⟨"DayDesk$Sums", "begin", "()V"⟩ ∈ dd_gt := List.mem_filter.mpr ⟨List.mem_of_getElem? (i := 115) (by decide +kernel), rfl⟩
set_option maxRecDepth 20000 in
theorem tb_112 : Cond.instanceMethod ⟨"DayDesk$Sums", "begin", "()V"⟩ ∈ dd_gt := List.mem_filter.mpr ⟨List.mem_of_getElem? (i := 116) (by decide +kernel), rfl⟩
set_option maxRecDepth 20000 in
theorem tb_113 : Cond.selects "DayDesk$Sums" ⟨"DayDesk$Sums", "begin", "()V"⟩ ⟨"DayDesk$Sums", "begin", "()V"⟩ ∈ dd_gt := List.mem_filter.mpr ⟨List.mem_of_getElem? (i := 117) (by decide +kernel), rfl⟩
set_option maxRecDepth 20000 in
theorem tb_114 : Cond.code ⟨"DayDesk$Sums", "begin", "()V"⟩ prog_5_method_8_code 2 (Option.none : Option FieldType) ∈ dd_gt := List.mem_filter.mpr ⟨List.mem_of_getElem? (i := 118) rfl, rfl⟩
set_option maxRecDepth 20000 in
theorem tb_115 : Cond.methodLink "DayDeskLaw" 18 ⟨"DayDesk", "skip", "(I)I"⟩ ∈ dd_gt := List.mem_filter.mpr ⟨List.mem_of_getElem? (i := 119) (by decide +kernel), rfl⟩
set_option maxRecDepth 20000 in
theorem tb_116 : Cond.instanceMethod ⟨"DayDesk", "skip", "(I)I"⟩ ∈ dd_gt := List.mem_filter.mpr ⟨List.mem_of_getElem? (i := 120) (by decide +kernel), rfl⟩
set_option maxRecDepth 20000 in
theorem tb_117 : Cond.selects "DayDesk" ⟨"DayDesk", "skip", "(I)I"⟩ ⟨"DayDesk", "skip", "(I)I"⟩ ∈ dd_gt := List.mem_filter.mpr ⟨List.mem_of_getElem? (i := 121) (by decide +kernel), rfl⟩
set_option maxRecDepth 20000 in
theorem tb_118 : Cond.code ⟨"DayDesk", "skip", "(I)I"⟩ prog_1_method_3_code 4 (Option.some FieldType.int) ∈ dd_gt := List.mem_filter.mpr ⟨List.mem_of_getElem? (i := 122) rfl, rfl⟩
set_option maxRecDepth 20000 in
theorem tb_119 : Cond.constant "DayDesk" 39 (100000 : Int32) ∈ dd_gt := List.mem_filter.mpr ⟨List.mem_of_getElem? (i := 123) (by decide +kernel), rfl⟩
set_option maxRecDepth 20000 in
theorem tb_120 : Cond.methodLink "DayDesk" 40 ⟨"DayDesk", "pass", "()I"⟩ ∈ dd_gt := List.mem_filter.mpr ⟨List.mem_of_getElem? (i := 124) (by decide +kernel), rfl⟩
set_option maxRecDepth 20000 in
theorem tb_121 : Cond.methodLink "DayDeskLaw" 23 ⟨"DayDesk", "may", "(IIZ)Z"⟩ ∈ dd_gt := List.mem_filter.mpr ⟨List.mem_of_getElem? (i := 125) (by decide +kernel), rfl⟩
set_option maxRecDepth 20000 in
theorem tb_122 : Cond.instanceMethod ⟨"DayDesk", "may", "(IIZ)Z"⟩ ∈ dd_gt := List.mem_filter.mpr ⟨List.mem_of_getElem? (i := 126) (by decide +kernel), rfl⟩
set_option maxRecDepth 20000 in
theorem tb_123 : Cond.selects "DayDesk" ⟨"DayDesk", "may", "(IIZ)Z"⟩ ⟨"DayDesk", "may", "(IIZ)Z"⟩ ∈ dd_gt := List.mem_filter.mpr ⟨List.mem_of_getElem? (i := 127) (by decide +kernel), rfl⟩
set_option maxRecDepth 20000 in
theorem tb_124 : Cond.code ⟨"DayDesk", "may", "(IIZ)Z"⟩ prog_1_method_4_code 4 (Option.some FieldType.boolean) ∈ dd_gt := List.mem_filter.mpr ⟨List.mem_of_getElem? (i := 128) rfl, rfl⟩
set_option maxRecDepth 20000 in
theorem tb_125 : Cond.methodLink "DayDesk" 41 ⟨"DayDesk$DayClock", "may", "(IIZ)Z"⟩ ∈ dd_gt := List.mem_filter.mpr ⟨List.mem_of_getElem? (i := 129) (by decide +kernel), rfl⟩
set_option maxRecDepth 20000 in
theorem tb_126 : Cond.instanceMethod ⟨"DayDesk$DayClock", "may", "(IIZ)Z"⟩ ∈ dd_gt := List.mem_filter.mpr ⟨List.mem_of_getElem? (i := 130) (by decide +kernel), rfl⟩
set_option maxRecDepth 20000 in
theorem tb_127 : Cond.selects "DayDesk$DayClock" ⟨"DayDesk$DayClock", "may", "(IIZ)Z"⟩ ⟨"DayDesk$DayClock", "may", "(IIZ)Z"⟩ ∈ dd_gt := List.mem_filter.mpr ⟨List.mem_of_getElem? (i := 131) (by decide +kernel), rfl⟩
set_option maxRecDepth 20000 in
theorem tb_128 : Cond.code ⟨"DayDesk$DayClock", "may", "(IIZ)Z"⟩ prog_2_method_5_code 5 (Option.some FieldType.boolean) ∈ dd_gt := List.mem_filter.mpr ⟨List.mem_of_getElem? (i := 132) rfl, rfl⟩
set_option maxRecDepth 20000 in
theorem tb_129 : Cond.methodLink "DayDesk$DayClock" 33 ⟨"DayDesk$DayClock", "phase", "()LDayDesk$Phase;"⟩ ∈ dd_gt := List.mem_filter.mpr ⟨List.mem_of_getElem? (i := 133) (by decide +kernel), rfl⟩
set_option maxRecDepth 20000 in
theorem tb_130 : Cond.instanceMethod ⟨"DayDesk$DayClock", "phase", "()LDayDesk$Phase;"⟩ ∈ dd_gt := List.mem_filter.mpr ⟨List.mem_of_getElem? (i := 134) (by decide +kernel), rfl⟩
set_option maxRecDepth 20000 in
theorem tb_131 : Cond.selects "DayDesk$DayClock" ⟨"DayDesk$DayClock", "phase", "()LDayDesk$Phase;"⟩ ⟨"DayDesk$DayClock", "phase", "()LDayDesk$Phase;"⟩ ∈ dd_gt := List.mem_filter.mpr ⟨List.mem_of_getElem? (i := 135) (by decide +kernel), rfl⟩
set_option maxRecDepth 20000 in
theorem tb_132 : Cond.code ⟨"DayDesk$DayClock", "phase", "()LDayDesk$Phase;"⟩ prog_2_method_2_code 2 (Option.some (FieldType.object "DayDesk$Phase")) ∈ dd_gt := List.mem_filter.mpr ⟨List.mem_of_getElem? (i := 136) rfl, rfl⟩
set_option maxRecDepth 20000 in
theorem tb_133 : Cond.methodLink "DayDesk$DayClock" 37 ⟨"DayDesk$Phase", "bars", "(I)Z"⟩ ∈ dd_gt := List.mem_filter.mpr ⟨List.mem_of_getElem? (i := 137) (by decide +kernel), rfl⟩
set_option maxRecDepth 20000 in
theorem tb_134 : Cond.instanceMethod ⟨"DayDesk$Phase", "bars", "(I)Z"⟩ ∈ dd_gt := List.mem_filter.mpr ⟨List.mem_of_getElem? (i := 138) (by decide +kernel), rfl⟩
set_option maxRecDepth 20000 in
theorem tb_135 : Cond.selects "DayDesk$Phase" ⟨"DayDesk$Phase", "bars", "(I)Z"⟩ ⟨"DayDesk$Phase", "bars", "(I)Z"⟩ ∈ dd_gt := List.mem_filter.mpr ⟨List.mem_of_getElem? (i := 139) (by decide +kernel), rfl⟩
set_option maxRecDepth 20000 in
theorem tb_136 : Cond.code ⟨"DayDesk$Phase", "bars", "(I)Z"⟩ prog_4_method_4_code 2 (Option.some FieldType.boolean) ∈ dd_gt := List.mem_filter.mpr ⟨List.mem_of_getElem? (i := 140) rfl, rfl⟩
set_option maxRecDepth 20000 in
theorem tb_137 : Cond.fieldLink "DayDesk$DayClock" 40 "DayDesk$Phase" "LATE" "LDayDesk$Phase;" ∈ dd_gt := List.mem_filter.mpr ⟨List.mem_of_getElem? (i := 141) (by decide +kernel), rfl⟩
set_option maxRecDepth 20000 in
theorem tb_139 : Cond.fieldLink "DayDesk$DayClock" 44 "DayDesk$Phase" "FINAL" "LDayDesk$Phase;" ∈ dd_gt := List.mem_filter.mpr ⟨List.mem_of_getElem? (i := 143) (by decide +kernel), rfl⟩
set_option maxRecDepth 20000 in
theorem tb_141 : Cond.methodLink "DayDeskLaw" 28 ⟨"DayDesk", "look", "(I)I"⟩ ∈ dd_gt := List.mem_filter.mpr ⟨List.mem_of_getElem? (i := 145) (by decide +kernel), rfl⟩
set_option maxRecDepth 20000 in
theorem tb_142 : Cond.instanceMethod ⟨"DayDesk", "look", "(I)I"⟩ ∈ dd_gt := List.mem_filter.mpr ⟨List.mem_of_getElem? (i := 146) (by decide +kernel), rfl⟩
set_option maxRecDepth 20000 in
theorem tb_143 : Cond.selects "DayDesk" ⟨"DayDesk", "look", "(I)I"⟩ ⟨"DayDesk", "look", "(I)I"⟩ ∈ dd_gt := List.mem_filter.mpr ⟨List.mem_of_getElem? (i := 147) (by decide +kernel), rfl⟩
set_option maxRecDepth 20000 in
theorem tb_144 : Cond.code ⟨"DayDesk", "look", "(I)I"⟩ prog_1_method_5_code 2 (Option.some FieldType.int) ∈ dd_gt := List.mem_filter.mpr ⟨List.mem_of_getElem? (i := 148) rfl, rfl⟩
set_option maxRecDepth 20000 in
theorem tb_145 : Cond.methodLink "DayDesk" 52 ⟨"DayDesk$DayClock", "phase", "()LDayDesk$Phase;"⟩ ∈ dd_gt := List.mem_filter.mpr ⟨List.mem_of_getElem? (i := 149) (by decide +kernel), rfl⟩
set_option maxRecDepth 20000 in
theorem tb_146 : Cond.methodLink "DayDesk" 61 ⟨"DayDesk$DayClock", "tillResolved", "()I"⟩ ∈ dd_gt := List.mem_filter.mpr ⟨List.mem_of_getElem? (i := 150) (by decide +kernel), rfl⟩
set_option maxRecDepth 20000 in
theorem tb_147 : Cond.instanceMethod ⟨"DayDesk$DayClock", "tillResolved", "()I"⟩ ∈ dd_gt := List.mem_filter.mpr ⟨List.mem_of_getElem? (i := 151) (by decide +kernel), rfl⟩
set_option maxRecDepth 20000 in
theorem tb_148 : Cond.selects "DayDesk$DayClock" ⟨"DayDesk$DayClock", "tillResolved", "()I"⟩ ⟨"DayDesk$DayClock", "tillResolved", "()I"⟩ ∈ dd_gt := List.mem_filter.mpr ⟨List.mem_of_getElem? (i := 152) (by decide +kernel), rfl⟩
set_option maxRecDepth 20000 in
theorem tb_149 : Cond.code ⟨"DayDesk$DayClock", "tillResolved", "()I"⟩ prog_2_method_6_code 2 (Option.some FieldType.int) ∈ dd_gt := List.mem_filter.mpr ⟨List.mem_of_getElem? (i := 153) rfl, rfl⟩
set_option maxRecDepth 20000 in
theorem tb_150 : Cond.methodLink "DayDesk" 64 ⟨"DayDesk$DayClock", "tillPhase", "()I"⟩ ∈ dd_gt := List.mem_filter.mpr ⟨List.mem_of_getElem? (i := 154) (by decide +kernel), rfl⟩
set_option maxRecDepth 20000 in
theorem tb_151 : Cond.instanceMethod ⟨"DayDesk$DayClock", "tillPhase", "()I"⟩ ∈ dd_gt := List.mem_filter.mpr ⟨List.mem_of_getElem? (i := 155) (by decide +kernel), rfl⟩
set_option maxRecDepth 20000 in
theorem tb_152 : Cond.selects "DayDesk$DayClock" ⟨"DayDesk$DayClock", "tillPhase", "()I"⟩ ⟨"DayDesk$DayClock", "tillPhase", "()I"⟩ ∈ dd_gt := List.mem_filter.mpr ⟨List.mem_of_getElem? (i := 156) (by decide +kernel), rfl⟩
set_option maxRecDepth 20000 in
theorem tb_153 : Cond.code ⟨"DayDesk$DayClock", "tillPhase", "()I"⟩ prog_2_method_7_code 2 (Option.some FieldType.int) ∈ dd_gt := List.mem_filter.mpr ⟨List.mem_of_getElem? (i := 157) rfl, rfl⟩
set_option maxRecDepth 20000 in
theorem tb_154 : Cond.methodLink "DayDeskLaw" 34 ⟨"DayDesk", "move", "(IJ)I"⟩ ∈ dd_gt := List.mem_filter.mpr ⟨List.mem_of_getElem? (i := 158) (by decide +kernel), rfl⟩
set_option maxRecDepth 20000 in
theorem tb_155 : Cond.instanceMethod ⟨"DayDesk", "move", "(IJ)I"⟩ ∈ dd_gt := List.mem_filter.mpr ⟨List.mem_of_getElem? (i := 159) (by decide +kernel), rfl⟩
set_option maxRecDepth 20000 in
theorem tb_156 : Cond.selects "DayDesk" ⟨"DayDesk", "move", "(IJ)I"⟩ ⟨"DayDesk", "move", "(IJ)I"⟩ ∈ dd_gt := List.mem_filter.mpr ⟨List.mem_of_getElem? (i := 160) (by decide +kernel), rfl⟩
set_option maxRecDepth 20000 in
theorem tb_157 : Cond.code ⟨"DayDesk", "move", "(IJ)I"⟩ prog_1_method_6_code 4 (Option.some FieldType.int) ∈ dd_gt := List.mem_filter.mpr ⟨List.mem_of_getElem? (i := 161) rfl, rfl⟩
set_option maxRecDepth 20000 in
theorem tb_158 : Cond.methodLink "DayDesk" 67 ⟨"DayDesk$Sums", "isPosition", "(I)Z"⟩ ∈ dd_gt := List.mem_filter.mpr ⟨List.mem_of_getElem? (i := 162) (by decide +kernel), rfl⟩
set_option maxRecDepth 20000 in
theorem tb_159 : Cond.instanceMethod ⟨"DayDesk$Sums", "isPosition", "(I)Z"⟩ ∈ dd_gt := List.mem_filter.mpr ⟨List.mem_of_getElem? (i := 163) (by decide +kernel), rfl⟩
set_option maxRecDepth 20000 in
theorem tb_160 : Cond.selects "DayDesk$Sums" ⟨"DayDesk$Sums", "isPosition", "(I)Z"⟩ ⟨"DayDesk$Sums", "isPosition", "(I)Z"⟩ ∈ dd_gt := List.mem_filter.mpr ⟨List.mem_of_getElem? (i := 164) (by decide +kernel), rfl⟩
set_option maxRecDepth 20000 in
theorem tb_161 : Cond.code ⟨"DayDesk$Sums", "isPosition", "(I)Z"⟩ prog_5_method_2_code 2 (Option.some FieldType.boolean) ∈ dd_gt := List.mem_filter.mpr ⟨List.mem_of_getElem? (i := 165) rfl, rfl⟩
set_option maxRecDepth 20000 in
theorem tb_162 : Cond.methodLink "DayDesk" 71 ⟨"DayDesk$Sums", "canMove", "(IJ)Z"⟩ ∈ dd_gt := List.mem_filter.mpr ⟨List.mem_of_getElem? (i := 166) (by decide +kernel), rfl⟩
set_option maxRecDepth 20000 in
theorem tb_163 : Cond.instanceMethod ⟨"DayDesk$Sums", "canMove", "(IJ)Z"⟩ ∈ dd_gt := List.mem_filter.mpr ⟨List.mem_of_getElem? (i := 167) (by decide +kernel), rfl⟩
set_option maxRecDepth 20000 in
theorem tb_164 : Cond.selects "DayDesk$Sums" ⟨"DayDesk$Sums", "canMove", "(IJ)Z"⟩ ⟨"DayDesk$Sums", "canMove", "(IJ)Z"⟩ ∈ dd_gt := List.mem_filter.mpr ⟨List.mem_of_getElem? (i := 168) (by decide +kernel), rfl⟩
set_option maxRecDepth 20000 in
theorem tb_165 : Cond.code ⟨"DayDesk$Sums", "canMove", "(IJ)Z"⟩ prog_5_method_4_code 4 (Option.some FieldType.boolean) ∈ dd_gt := List.mem_filter.mpr ⟨List.mem_of_getElem? (i := 169) rfl, rfl⟩
set_option maxRecDepth 20000 in
theorem tb_166 : Cond.constantLong "DayDesk$Sums" 26 (10000000000000000 : Int64) ∈ dd_gt := List.mem_filter.mpr ⟨List.mem_of_getElem? (i := 170) (by decide +kernel), rfl⟩
set_option maxRecDepth 20000 in
theorem tb_167 : Cond.methodLink "DayDesk$Sums" 28 ⟨"DayDesk$Sums", "isWithin", "(JJ)Z"⟩ ∈ dd_gt := List.mem_filter.mpr ⟨List.mem_of_getElem? (i := 171) (by decide +kernel), rfl⟩
set_option maxRecDepth 20000 in
theorem tb_168 : Cond.static ⟨"DayDesk$Sums", "isWithin", "(JJ)Z"⟩ ∈ dd_gt := List.mem_filter.mpr ⟨List.mem_of_getElem? (i := 172) (by decide +kernel), rfl⟩
set_option maxRecDepth 20000 in
theorem tb_169 : Cond.code ⟨"DayDesk$Sums", "isWithin", "(JJ)Z"⟩ prog_5_method_3_code 4 (Option.some FieldType.boolean) ∈ dd_gt := List.mem_filter.mpr ⟨List.mem_of_getElem? (i := 173) rfl, rfl⟩
set_option maxRecDepth 20000 in
theorem tb_170 : Cond.constantLong "DayDesk$Sums" 32 (9000000000000000000 : Int64) ∈ dd_gt := List.mem_filter.mpr ⟨List.mem_of_getElem? (i := 174) (by decide +kernel), rfl⟩
set_option maxRecDepth 20000 in
theorem tb_171 : Cond.methodLink "DayDesk" 75 ⟨"DayDesk$Sums", "move", "(IJ)V"⟩ ∈ dd_gt := List.mem_filter.mpr ⟨List.mem_of_getElem? (i := 175) (by decide +kernel), rfl⟩
set_option maxRecDepth 20000 in
theorem tb_172 : Cond.instanceMethod ⟨"DayDesk$Sums", "move", "(IJ)V"⟩ ∈ dd_gt := List.mem_filter.mpr ⟨List.mem_of_getElem? (i := 176) (by decide +kernel), rfl⟩
set_option maxRecDepth 20000 in
theorem tb_173 : Cond.selects "DayDesk$Sums" ⟨"DayDesk$Sums", "move", "(IJ)V"⟩ ⟨"DayDesk$Sums", "move", "(IJ)V"⟩ ∈ dd_gt := List.mem_filter.mpr ⟨List.mem_of_getElem? (i := 177) (by decide +kernel), rfl⟩
set_option maxRecDepth 20000 in
theorem tb_174 : Cond.code ⟨"DayDesk$Sums", "move", "(IJ)V"⟩ prog_5_method_5_code 4 (Option.none : Option FieldType) ∈ dd_gt := List.mem_filter.mpr ⟨List.mem_of_getElem? (i := 178) rfl, rfl⟩
set_option maxRecDepth 20000 in
theorem tb_175 : Cond.methodLink "DayDeskLaw" 39 ⟨"DayDesk", "row", "(II)J"⟩ ∈ dd_gt := List.mem_filter.mpr ⟨List.mem_of_getElem? (i := 179) (by decide +kernel), rfl⟩
set_option maxRecDepth 20000 in
theorem tb_176 : Cond.instanceMethod ⟨"DayDesk", "row", "(II)J"⟩ ∈ dd_gt := List.mem_filter.mpr ⟨List.mem_of_getElem? (i := 180) (by decide +kernel), rfl⟩
set_option maxRecDepth 20000 in
theorem tb_177 : Cond.selects "DayDesk" ⟨"DayDesk", "row", "(II)J"⟩ ⟨"DayDesk", "row", "(II)J"⟩ ∈ dd_gt := List.mem_filter.mpr ⟨List.mem_of_getElem? (i := 181) (by decide +kernel), rfl⟩
set_option maxRecDepth 20000 in
theorem tb_178 : Cond.code ⟨"DayDesk", "row", "(II)J"⟩ prog_1_method_7_code 3 (Option.some FieldType.long) ∈ dd_gt := List.mem_filter.mpr ⟨List.mem_of_getElem? (i := 182) rfl, rfl⟩
set_option maxRecDepth 20000 in
theorem tb_179 : Cond.methodLink "DayDesk" 79 ⟨"DayDesk$Sums", "of", "(II)J"⟩ ∈ dd_gt := List.mem_filter.mpr ⟨List.mem_of_getElem? (i := 183) (by decide +kernel), rfl⟩
set_option maxRecDepth 20000 in
theorem tb_180 : Cond.instanceMethod ⟨"DayDesk$Sums", "of", "(II)J"⟩ ∈ dd_gt := List.mem_filter.mpr ⟨List.mem_of_getElem? (i := 184) (by decide +kernel), rfl⟩
set_option maxRecDepth 20000 in
theorem tb_181 : Cond.selects "DayDesk$Sums" ⟨"DayDesk$Sums", "of", "(II)J"⟩ ⟨"DayDesk$Sums", "of", "(II)J"⟩ ∈ dd_gt := List.mem_filter.mpr ⟨List.mem_of_getElem? (i := 185) (by decide +kernel), rfl⟩
set_option maxRecDepth 20000 in
theorem tb_182 : Cond.code ⟨"DayDesk$Sums", "of", "(II)J"⟩ prog_5_method_7_code 3 (Option.some FieldType.long) ∈ dd_gt := List.mem_filter.mpr ⟨List.mem_of_getElem? (i := 186) rfl, rfl⟩
set_option maxRecDepth 20000 in
theorem tb_183 : Cond.methodLink "DayDeskLaw" 44 ⟨"DayDesk", "isTold", "(I)Z"⟩ ∈ dd_gt := List.mem_filter.mpr ⟨List.mem_of_getElem? (i := 187) (by decide +kernel), rfl⟩
set_option maxRecDepth 20000 in
theorem tb_184 : Cond.instanceMethod ⟨"DayDesk", "isTold", "(I)Z"⟩ ∈ dd_gt := List.mem_filter.mpr ⟨List.mem_of_getElem? (i := 188) (by decide +kernel), rfl⟩
set_option maxRecDepth 20000 in
theorem tb_185 : Cond.selects "DayDesk" ⟨"DayDesk", "isTold", "(I)Z"⟩ ⟨"DayDesk", "isTold", "(I)Z"⟩ ∈ dd_gt := List.mem_filter.mpr ⟨List.mem_of_getElem? (i := 189) (by decide +kernel), rfl⟩
set_option maxRecDepth 20000 in
theorem tb_186 : Cond.code ⟨"DayDesk", "isTold", "(I)Z"⟩ prog_1_method_8_code 2 (Option.some FieldType.boolean) ∈ dd_gt := List.mem_filter.mpr ⟨List.mem_of_getElem? (i := 190) rfl, rfl⟩
set_option maxRecDepth 20000 in
theorem tb_187 : Cond.methodLink "DayDesk" 83 ⟨"DayDesk$Sums", "isTold", "(I)Z"⟩ ∈ dd_gt := List.mem_filter.mpr ⟨List.mem_of_getElem? (i := 191) (by decide +kernel), rfl⟩
set_option maxRecDepth 20000 in
theorem tb_188 : Cond.instanceMethod ⟨"DayDesk$Sums", "isTold", "(I)Z"⟩ ∈ dd_gt := List.mem_filter.mpr ⟨List.mem_of_getElem? (i := 192) (by decide +kernel), rfl⟩
set_option maxRecDepth 20000 in
theorem tb_189 : Cond.selects "DayDesk$Sums" ⟨"DayDesk$Sums", "isTold", "(I)Z"⟩ ⟨"DayDesk$Sums", "isTold", "(I)Z"⟩ ∈ dd_gt := List.mem_filter.mpr ⟨List.mem_of_getElem? (i := 193) (by decide +kernel), rfl⟩
set_option maxRecDepth 20000 in
theorem tb_190 : Cond.code ⟨"DayDesk$Sums", "isTold", "(I)Z"⟩ prog_5_method_6_code 2 (Option.some FieldType.boolean) ∈ dd_gt := List.mem_filter.mpr ⟨List.mem_of_getElem? (i := 194) rfl, rfl⟩
set_option maxRecDepth 20000 in
theorem tb_191 : Cond.methodLink "DayDeskLaw" 49 ⟨"DayDesk", "write", "(I)I"⟩ ∈ dd_gt := List.mem_filter.mpr ⟨List.mem_of_getElem? (i := 195) (by decide +kernel), rfl⟩
set_option maxRecDepth 20000 in
theorem tb_192 : Cond.instanceMethod ⟨"DayDesk", "write", "(I)I"⟩ ∈ dd_gt := List.mem_filter.mpr ⟨List.mem_of_getElem? (i := 196) (by decide +kernel), rfl⟩
set_option maxRecDepth 20000 in
theorem tb_193 : Cond.selects "DayDesk" ⟨"DayDesk", "write", "(I)I"⟩ ⟨"DayDesk", "write", "(I)I"⟩ ∈ dd_gt := List.mem_filter.mpr ⟨List.mem_of_getElem? (i := 197) (by decide +kernel), rfl⟩
set_option maxRecDepth 20000 in
theorem tb_194 : Cond.code ⟨"DayDesk", "write", "(I)I"⟩ prog_1_method_9_code 3 (Option.some FieldType.int) ∈ dd_gt := List.mem_filter.mpr ⟨List.mem_of_getElem? (i := 198) rfl, rfl⟩
set_option maxRecDepth 20000 in
theorem tb_195 : Cond.methodLink "DayDesk" 89 ⟨"DayDesk$NumberWriter", "blank", "()V"⟩ ∈ dd_gt := List.mem_filter.mpr ⟨List.mem_of_getElem? (i := 199) (by decide +kernel), rfl⟩
set_option maxRecDepth 20000 in
theorem tb_196 : Cond.instanceMethod ⟨"DayDesk$NumberWriter", "blank", "()V"⟩ ∈ dd_gt := List.mem_filter.mpr ⟨List.mem_of_getElem? (i := 200) (by decide +kernel), rfl⟩
set_option maxRecDepth 20000 in
theorem tb_197 : Cond.selects "DayDesk$NumberWriter" ⟨"DayDesk$NumberWriter", "blank", "()V"⟩ ⟨"DayDesk$NumberWriter", "blank", "()V"⟩ ∈ dd_gt := List.mem_filter.mpr ⟨List.mem_of_getElem? (i := 201) (by decide +kernel), rfl⟩
set_option maxRecDepth 20000 in
theorem tb_198 : Cond.code ⟨"DayDesk$NumberWriter", "blank", "()V"⟩ prog_3_method_2_code 1 (Option.none : Option FieldType) ∈ dd_gt := List.mem_filter.mpr ⟨List.mem_of_getElem? (i := 202) rfl, rfl⟩
set_option maxRecDepth 20000 in
theorem tb_199 : Cond.methodLink "DayDesk" 92 ⟨"DayDesk$NumberWriter", "write", "(J)V"⟩ ∈ dd_gt := List.mem_filter.mpr ⟨List.mem_of_getElem? (i := 203) (by decide +kernel), rfl⟩
set_option maxRecDepth 20000 in
theorem tb_200 : Cond.instanceMethod ⟨"DayDesk$NumberWriter", "write", "(J)V"⟩ ∈ dd_gt := List.mem_filter.mpr ⟨List.mem_of_getElem? (i := 204) (by decide +kernel), rfl⟩
set_option maxRecDepth 20000 in
theorem tb_201 : Cond.selects "DayDesk$NumberWriter" ⟨"DayDesk$NumberWriter", "write", "(J)V"⟩ ⟨"DayDesk$NumberWriter", "write", "(J)V"⟩ ∈ dd_gt := List.mem_filter.mpr ⟨List.mem_of_getElem? (i := 205) (by decide +kernel), rfl⟩
set_option maxRecDepth 20000 in
theorem tb_202 : Cond.code ⟨"DayDesk$NumberWriter", "write", "(J)V"⟩ prog_3_method_3_code 7 (Option.none : Option FieldType) ∈ dd_gt := List.mem_filter.mpr ⟨List.mem_of_getElem? (i := 206) rfl, rfl⟩
set_option maxRecDepth 20000 in
theorem tb_203 : Cond.constantLong "DayDesk$NumberWriter" 20 (10 : Int64) ∈ dd_gt := List.mem_filter.mpr ⟨List.mem_of_getElem? (i := 207) (by decide +kernel), rfl⟩
set_option maxRecDepth 20000 in
theorem tb_204 : Cond.methodLink "DayDeskLaw" 53 ⟨"DayDesk", "at", "(I)I"⟩ ∈ dd_gt := List.mem_filter.mpr ⟨List.mem_of_getElem? (i := 208) (by decide +kernel), rfl⟩
set_option maxRecDepth 20000 in
theorem tb_205 : Cond.instanceMethod ⟨"DayDesk", "at", "(I)I"⟩ ∈ dd_gt := List.mem_filter.mpr ⟨List.mem_of_getElem? (i := 209) (by decide +kernel), rfl⟩
set_option maxRecDepth 20000 in
theorem tb_206 : Cond.selects "DayDesk" ⟨"DayDesk", "at", "(I)I"⟩ ⟨"DayDesk", "at", "(I)I"⟩ ∈ dd_gt := List.mem_filter.mpr ⟨List.mem_of_getElem? (i := 210) (by decide +kernel), rfl⟩
set_option maxRecDepth 20000 in
theorem tb_207 : Cond.code ⟨"DayDesk", "at", "(I)I"⟩ prog_1_method_10_code 2 (Option.some FieldType.int) ∈ dd_gt := List.mem_filter.mpr ⟨List.mem_of_getElem? (i := 211) rfl, rfl⟩
set_option maxRecDepth 20000 in
theorem tb_208 : Cond.classLink "DayDeskLaw" 10 "DayDeskModel" ∈ dd_gt := List.mem_filter.mpr ⟨List.mem_of_getElem? (i := 212) (by decide +kernel), rfl⟩
set_option maxRecDepth 20000 in
theorem tb_209 : Cond.instantiable "DayDeskModel" 7 ∈ dd_gt := List.mem_filter.mpr ⟨List.mem_of_getElem? (i := 213) (by decide +kernel), rfl⟩
set_option maxRecDepth 20000 in
theorem tb_210 : Cond.methodLink "DayDeskLaw" 12 ⟨"DayDeskModel", "<init>", "()V"⟩ ∈ dd_gt := List.mem_filter.mpr ⟨List.mem_of_getElem? (i := 214) (by decide +kernel), rfl⟩
set_option maxRecDepth 20000 in
theorem tb_211 : Cond.instanceMethod ⟨"DayDeskModel", "<init>", "()V"⟩ ∈ dd_gt := List.mem_filter.mpr ⟨List.mem_of_getElem? (i := 215) (by decide +kernel), rfl⟩
set_option maxRecDepth 20000 in
theorem tb_212 : Cond.code ⟨"DayDeskModel", "<init>", "()V"⟩ prog_7_method_1_code 1 (Option.none : Option FieldType) ∈ dd_gt := List.mem_filter.mpr ⟨List.mem_of_getElem? (i := 216) rfl, rfl⟩
set_option maxRecDepth 20000 in
theorem tb_213 : Cond.methodLink "DayDeskModel" 1 ⟨"java/lang/Object", "<init>", "()V"⟩ ∈ dd_gt := List.mem_filter.mpr ⟨List.mem_of_getElem? (i := 217) (by decide +kernel), rfl⟩
set_option maxRecDepth 20000 in
theorem tb_214 : Cond.fieldLink "DayDeskModel" 23 "DayDeskModel" "ticks" "J" ∈ dd_gt := List.mem_filter.mpr ⟨List.mem_of_getElem? (i := 218) (by decide +kernel), rfl⟩
set_option maxRecDepth 20000 in
theorem tb_215 : Cond.fieldLink "DayDeskModel" 7 "DayDeskModel" "opening" "[J" ∈ dd_gt := List.mem_filter.mpr ⟨List.mem_of_getElem? (i := 219) (by decide +kernel), rfl⟩
set_option maxRecDepth 20000 in
theorem tb_216 : Cond.fieldLink "DayDeskModel" 33 "DayDeskModel" "moves" "I" ∈ dd_gt := List.mem_filter.mpr ⟨List.mem_of_getElem? (i := 220) (by decide +kernel), rfl⟩
set_option maxRecDepth 20000 in
theorem tb_217 : Cond.fieldLink "DayDeskModel" 13 "DayDeskModel" "moveOf" "[I" ∈ dd_gt := List.mem_filter.mpr ⟨List.mem_of_getElem? (i := 221) (by decide +kernel), rfl⟩
set_option maxRecDepth 20000 in
theorem tb_218 : Cond.fieldLink "DayDeskModel" 17 "DayDeskModel" "moveBy" "[J" ∈ dd_gt := List.mem_filter.mpr ⟨List.mem_of_getElem? (i := 222) (by decide +kernel), rfl⟩
set_option maxRecDepth 20000 in
theorem tb_219 : Cond.fieldLink "DayDeskModel" 71 "DayDeskModel" "written" "I" ∈ dd_gt := List.mem_filter.mpr ⟨List.mem_of_getElem? (i := 223) (by decide +kernel), rfl⟩
set_option maxRecDepth 20000 in
theorem tb_220 : Cond.fieldLink "DayDeskModel" 20 "DayDeskModel" "text" "[I" ∈ dd_gt := List.mem_filter.mpr ⟨List.mem_of_getElem? (i := 224) (by decide +kernel), rfl⟩
set_option maxRecDepth 20000 in
theorem tb_221 : Cond.lays "DayDeskModel" "DayDeskModel" "ticks" "J" ∈ dd_gt := List.mem_filter.mpr ⟨List.mem_of_getElem? (i := 225) (by decide +kernel), rfl⟩
set_option maxRecDepth 20000 in
theorem tb_222 : Cond.soleField "DayDeskModel" "ticks" ∈ dd_gt := List.mem_filter.mpr ⟨List.mem_of_getElem? (i := 226) (by decide +kernel), rfl⟩
set_option maxRecDepth 20000 in
theorem tb_223 : Cond.laysFinal "DayDeskModel" "DayDeskModel" "opening" "[J" ∈ dd_gt := List.mem_filter.mpr ⟨List.mem_of_getElem? (i := 227) (by decide +kernel), rfl⟩
set_option maxRecDepth 20000 in
theorem tb_224 : Cond.soleField "DayDeskModel" "opening" ∈ dd_gt := List.mem_filter.mpr ⟨List.mem_of_getElem? (i := 228) (by decide +kernel), rfl⟩
set_option maxRecDepth 20000 in
theorem tb_225 : Cond.lays "DayDeskModel" "DayDeskModel" "moves" "I" ∈ dd_gt := List.mem_filter.mpr ⟨List.mem_of_getElem? (i := 229) (by decide +kernel), rfl⟩
set_option maxRecDepth 20000 in
theorem tb_226 : Cond.soleField "DayDeskModel" "moves" ∈ dd_gt := List.mem_filter.mpr ⟨List.mem_of_getElem? (i := 230) (by decide +kernel), rfl⟩
set_option maxRecDepth 20000 in
theorem tb_227 : Cond.laysFinal "DayDeskModel" "DayDeskModel" "moveOf" "[I" ∈ dd_gt := List.mem_filter.mpr ⟨List.mem_of_getElem? (i := 231) (by decide +kernel), rfl⟩
set_option maxRecDepth 20000 in
theorem tb_228 : Cond.soleField "DayDeskModel" "moveOf" ∈ dd_gt := List.mem_filter.mpr ⟨List.mem_of_getElem? (i := 232) (by decide +kernel), rfl⟩
set_option maxRecDepth 20000 in
theorem tb_229 : Cond.laysFinal "DayDeskModel" "DayDeskModel" "moveBy" "[J" ∈ dd_gt := List.mem_filter.mpr ⟨List.mem_of_getElem? (i := 233) (by decide +kernel), rfl⟩
set_option maxRecDepth 20000 in
theorem tb_230 : Cond.soleField "DayDeskModel" "moveBy" ∈ dd_gt := List.mem_filter.mpr ⟨List.mem_of_getElem? (i := 234) (by decide +kernel), rfl⟩
set_option maxRecDepth 20000 in
theorem tb_231 : Cond.lays "DayDeskModel" "DayDeskModel" "written" "I" ∈ dd_gt := List.mem_filter.mpr ⟨List.mem_of_getElem? (i := 235) (by decide +kernel), rfl⟩
set_option maxRecDepth 20000 in
theorem tb_232 : Cond.soleField "DayDeskModel" "written" ∈ dd_gt := List.mem_filter.mpr ⟨List.mem_of_getElem? (i := 236) (by decide +kernel), rfl⟩
set_option maxRecDepth 20000 in
theorem tb_233 : Cond.laysFinal "DayDeskModel" "DayDeskModel" "text" "[I" ∈ dd_gt := List.mem_filter.mpr ⟨List.mem_of_getElem? (i := 237) (by decide +kernel), rfl⟩
set_option maxRecDepth 20000 in
theorem tb_234 : Cond.soleField "DayDeskModel" "text" ∈ dd_gt := List.mem_filter.mpr ⟨List.mem_of_getElem? (i := 238) (by decide +kernel), rfl⟩
set_option maxRecDepth 20000 in
theorem tb_235 : Cond.superclass "DayDeskModel" "java/lang/Object" ∈ dd_gt := List.mem_filter.mpr ⟨List.mem_of_getElem? (i := 239) (by decide +kernel), rfl⟩
set_option maxRecDepth 20000 in
theorem tb_236 : Cond.methodLink "DayDeskLaw" 17 ⟨"DayDeskModel", "pass", "()I"⟩ ∈ dd_gt := List.mem_filter.mpr ⟨List.mem_of_getElem? (i := 240) (by decide +kernel), rfl⟩
set_option maxRecDepth 20000 in
theorem tb_237 : Cond.instanceMethod ⟨"DayDeskModel", "pass", "()I"⟩ ∈ dd_gt := List.mem_filter.mpr ⟨List.mem_of_getElem? (i := 241) (by decide +kernel), rfl⟩
set_option maxRecDepth 20000 in
theorem tb_238 : Cond.selects "DayDeskModel" ⟨"DayDeskModel", "pass", "()I"⟩ ⟨"DayDeskModel", "pass", "()I"⟩ ∈ dd_gt := List.mem_filter.mpr ⟨List.mem_of_getElem? (i := 242) (by decide +kernel), rfl⟩
set_option maxRecDepth 20000 in
theorem tb_239 : Cond.code ⟨"DayDeskModel", "pass", "()I"⟩ prog_7_method_6_code 2 (Option.some FieldType.int) ∈ dd_gt := List.mem_filter.mpr ⟨List.mem_of_getElem? (i := 243) rfl, rfl⟩
set_option maxRecDepth 20000 in
theorem tb_240 : Cond.methodLink "DayDeskModel" 37 ⟨"DayDeskModel", "tick", "()I"⟩ ∈ dd_gt := List.mem_filter.mpr ⟨List.mem_of_getElem? (i := 244) (by decide +kernel), rfl⟩
set_option maxRecDepth 20000 in
theorem tb_242 : Cond.instanceMethod ⟨"DayDeskModel", "tick", "()I"⟩ ∈ dd_gt := List.mem_filter.mpr ⟨List.mem_of_getElem? (i := 246) (by decide +kernel), rfl⟩
set_option maxRecDepth 20000 in
theorem tb_243 : Cond.code ⟨"DayDeskModel", "tick", "()I"⟩ prog_7_method_2_code 1 (Option.some FieldType.int) ∈ dd_gt := List.mem_filter.mpr ⟨List.mem_of_getElem? (i := 247) rfl, rfl⟩
set_option maxRecDepth 20000 in
theorem tb_244 : Cond.constantLong "DayDeskModel" 27 (1000 : Int64) ∈ dd_gt := List.mem_filter.mpr ⟨List.mem_of_getElem? (i := 248) (by decide +kernel), rfl⟩
set_option maxRecDepth 20000 in
theorem tb_245 : Cond.methodLink "DayDeskModel" 41 ⟨"DayDeskModel", "begin", "()V"⟩ ∈ dd_gt := List.mem_filter.mpr ⟨List.mem_of_getElem? (i := 249) (by decide +kernel), rfl⟩
set_option maxRecDepth 20000 in
theorem tb_247 : Cond.instanceMethod ⟨"DayDeskModel", "begin", "()V"⟩ ∈ dd_gt := List.mem_filter.mpr ⟨List.mem_of_getElem? (i := 251) (by decide +kernel), rfl⟩
set_option maxRecDepth 20000 in
theorem tb_248 : Cond.code ⟨"DayDeskModel", "begin", "()V"⟩ prog_7_method_5_code 2 (Option.none : Option FieldType) ∈ dd_gt := List.mem_filter.mpr ⟨List.mem_of_getElem? (i := 252) rfl, rfl⟩
set_option maxRecDepth 20000 in
theorem tb_249 : Cond.methodLink "DayDeskModel" 29 ⟨"DayDeskModel", "row", "(II)J"⟩ ∈ dd_gt := List.mem_filter.mpr ⟨List.mem_of_getElem? (i := 253) (by decide +kernel), rfl⟩
set_option maxRecDepth 20000 in
theorem tb_250 : Cond.instanceMethod ⟨"DayDeskModel", "row", "(II)J"⟩ ∈ dd_gt := List.mem_filter.mpr ⟨List.mem_of_getElem? (i := 254) (by decide +kernel), rfl⟩
set_option maxRecDepth 20000 in
theorem tb_251 : Cond.selects "DayDeskModel" ⟨"DayDeskModel", "row", "(II)J"⟩ ⟨"DayDeskModel", "row", "(II)J"⟩ ∈ dd_gt := List.mem_filter.mpr ⟨List.mem_of_getElem? (i := 255) (by decide +kernel), rfl⟩
set_option maxRecDepth 20000 in
theorem tb_252 : Cond.code ⟨"DayDeskModel", "row", "(II)J"⟩ prog_7_method_13_code 10 (Option.some FieldType.long) ∈ dd_gt := List.mem_filter.mpr ⟨List.mem_of_getElem? (i := 256) rfl, rfl⟩
set_option maxRecDepth 20000 in
theorem tb_253 : Cond.methodLink "DayDeskModel" 60 ⟨"DayDeskModel", "isPosition", "(I)Z"⟩ ∈ dd_gt := List.mem_filter.mpr ⟨List.mem_of_getElem? (i := 257) (by decide +kernel), rfl⟩
set_option maxRecDepth 20000 in
theorem tb_254 : Cond.static ⟨"DayDeskModel", "isPosition", "(I)Z"⟩ ∈ dd_gt := List.mem_filter.mpr ⟨List.mem_of_getElem? (i := 258) (by decide +kernel), rfl⟩
set_option maxRecDepth 20000 in
theorem tb_255 : Cond.code ⟨"DayDeskModel", "isPosition", "(I)Z"⟩ prog_7_method_10_code 1 (Option.some FieldType.boolean) ∈ dd_gt := List.mem_filter.mpr ⟨List.mem_of_getElem? (i := 259) rfl, rfl⟩
set_option maxRecDepth 20000 in
theorem tb_256 : Cond.methodLink "DayDeskModel" 44 ⟨"DayDeskModel", "isResolved", "(I)Z"⟩ ∈ dd_gt := List.mem_filter.mpr ⟨List.mem_of_getElem? (i := 260) (by decide +kernel), rfl⟩
set_option maxRecDepth 20000 in
theorem tb_257 : Cond.static ⟨"DayDeskModel", "isResolved", "(I)Z"⟩ ∈ dd_gt := List.mem_filter.mpr ⟨List.mem_of_getElem? (i := 261) (by decide +kernel), rfl⟩
set_option maxRecDepth 20000 in
theorem tb_258 : Cond.code ⟨"DayDeskModel", "isResolved", "(I)Z"⟩ prog_7_method_3_code 1 (Option.some FieldType.boolean) ∈ dd_gt := List.mem_filter.mpr ⟨List.mem_of_getElem? (i := 262) rfl, rfl⟩
set_option maxRecDepth 20000 in
theorem tb_259 : Cond.methodLink "DayDeskLaw" 22 ⟨"DayDeskModel", "skip", "(I)I"⟩ ∈ dd_gt := List.mem_filter.mpr ⟨List.mem_of_getElem? (i := 263) (by decide +kernel), rfl⟩
set_option maxRecDepth 20000 in
theorem tb_260 : Cond.instanceMethod ⟨"DayDeskModel", "skip", "(I)I"⟩ ∈ dd_gt := List.mem_filter.mpr ⟨List.mem_of_getElem? (i := 264) (by decide +kernel), rfl⟩
set_option maxRecDepth 20000 in
theorem tb_261 : Cond.selects "DayDeskModel" ⟨"DayDeskModel", "skip", "(I)I"⟩ ⟨"DayDeskModel", "skip", "(I)I"⟩ ∈ dd_gt := List.mem_filter.mpr ⟨List.mem_of_getElem? (i := 265) (by decide +kernel), rfl⟩
set_option maxRecDepth 20000 in
theorem tb_262 : Cond.code ⟨"DayDeskModel", "skip", "(I)I"⟩ prog_7_method_7_code 4 (Option.some FieldType.int) ∈ dd_gt := List.mem_filter.mpr ⟨List.mem_of_getElem? (i := 266) rfl, rfl⟩
set_option maxRecDepth 20000 in
theorem tb_263 : Cond.constant "DayDeskModel" 48 (100000 : Int32) ∈ dd_gt := List.mem_filter.mpr ⟨List.mem_of_getElem? (i := 267) (by decide +kernel), rfl⟩
set_option maxRecDepth 20000 in
theorem tb_264 : Cond.methodLink "DayDeskModel" 49 ⟨"DayDeskModel", "pass", "()I"⟩ ∈ dd_gt := List.mem_filter.mpr ⟨List.mem_of_getElem? (i := 268) (by decide +kernel), rfl⟩
set_option maxRecDepth 20000 in
theorem tb_265 : Cond.methodLink "DayDeskLaw" 27 ⟨"DayDeskModel", "may", "(IIZ)Z"⟩ ∈ dd_gt := List.mem_filter.mpr ⟨List.mem_of_getElem? (i := 269) (by decide +kernel), rfl⟩
set_option maxRecDepth 20000 in
theorem tb_266 : Cond.instanceMethod ⟨"DayDeskModel", "may", "(IIZ)Z"⟩ ∈ dd_gt := List.mem_filter.mpr ⟨List.mem_of_getElem? (i := 270) (by decide +kernel), rfl⟩
set_option maxRecDepth 20000 in
theorem tb_267 : Cond.selects "DayDeskModel" ⟨"DayDeskModel", "may", "(IIZ)Z"⟩ ⟨"DayDeskModel", "may", "(IIZ)Z"⟩ ∈ dd_gt := List.mem_filter.mpr ⟨List.mem_of_getElem? (i := 271) (by decide +kernel), rfl⟩
set_option maxRecDepth 20000 in
theorem tb_268 : Cond.code ⟨"DayDeskModel", "may", "(IIZ)Z"⟩ prog_7_method_8_code 7 (Option.some FieldType.boolean) ∈ dd_gt := List.mem_filter.mpr ⟨List.mem_of_getElem? (i := 272) rfl, rfl⟩
set_option maxRecDepth 20000 in
theorem tb_269 : Cond.methodLink "DayDeskModel" 52 ⟨"DayDeskModel", "phaseOf", "(I)I"⟩ ∈ dd_gt := List.mem_filter.mpr ⟨List.mem_of_getElem? (i := 273) (by decide +kernel), rfl⟩
set_option maxRecDepth 20000 in
theorem tb_270 : Cond.static ⟨"DayDeskModel", "phaseOf", "(I)I"⟩ ∈ dd_gt := List.mem_filter.mpr ⟨List.mem_of_getElem? (i := 274) (by decide +kernel), rfl⟩
set_option maxRecDepth 20000 in
theorem tb_271 : Cond.code ⟨"DayDeskModel", "phaseOf", "(I)I"⟩ prog_7_method_4_code 1 (Option.some FieldType.int) ∈ dd_gt := List.mem_filter.mpr ⟨List.mem_of_getElem? (i := 275) rfl, rfl⟩
set_option maxRecDepth 20000 in
theorem tb_272 : Cond.methodLink "DayDeskLaw" 31 ⟨"DayDeskModel", "look", "(I)I"⟩ ∈ dd_gt := List.mem_filter.mpr ⟨List.mem_of_getElem? (i := 276) (by decide +kernel), rfl⟩
set_option maxRecDepth 20000 in
theorem tb_273 : Cond.instanceMethod ⟨"DayDeskModel", "look", "(I)I"⟩ ∈ dd_gt := List.mem_filter.mpr ⟨List.mem_of_getElem? (i := 277) (by decide +kernel), rfl⟩
set_option maxRecDepth 20000 in
theorem tb_274 : Cond.selects "DayDeskModel" ⟨"DayDeskModel", "look", "(I)I"⟩ ⟨"DayDeskModel", "look", "(I)I"⟩ ∈ dd_gt := List.mem_filter.mpr ⟨List.mem_of_getElem? (i := 278) (by decide +kernel), rfl⟩
set_option maxRecDepth 20000 in
theorem tb_275 : Cond.code ⟨"DayDeskModel", "look", "(I)I"⟩ prog_7_method_9_code 5 (Option.some FieldType.int) ∈ dd_gt := List.mem_filter.mpr ⟨List.mem_of_getElem? (i := 279) rfl, rfl⟩
set_option maxRecDepth 20000 in
theorem tb_276 : Cond.methodLink "DayDeskLaw" 38 ⟨"DayDeskModel", "move", "(IJ)I"⟩ ∈ dd_gt := List.mem_filter.mpr ⟨List.mem_of_getElem? (i := 280) (by decide +kernel), rfl⟩
set_option maxRecDepth 20000 in
theorem tb_277 : Cond.instanceMethod ⟨"DayDeskModel", "move", "(IJ)I"⟩ ∈ dd_gt := List.mem_filter.mpr ⟨List.mem_of_getElem? (i := 281) (by decide +kernel), rfl⟩
set_option maxRecDepth 20000 in
theorem tb_278 : Cond.selects "DayDeskModel" ⟨"DayDeskModel", "move", "(IJ)I"⟩ ⟨"DayDeskModel", "move", "(IJ)I"⟩ ∈ dd_gt := List.mem_filter.mpr ⟨List.mem_of_getElem? (i := 282) (by decide +kernel), rfl⟩
set_option maxRecDepth 20000 in
theorem tb_279 : Cond.code ⟨"DayDeskModel", "move", "(IJ)I"⟩ prog_7_method_12_code 4 (Option.some FieldType.int) ∈ dd_gt := List.mem_filter.mpr ⟨List.mem_of_getElem? (i := 283) rfl, rfl⟩
set_option maxRecDepth 20000 in
theorem tb_280 : Cond.constantLong "DayDeskModel" 63 (-10000000000000000 : Int64) ∈ dd_gt := List.mem_filter.mpr ⟨List.mem_of_getElem? (i := 284) (by decide +kernel), rfl⟩
set_option maxRecDepth 20000 in
theorem tb_281 : Cond.constantLong "DayDeskModel" 65 (10000000000000000 : Int64) ∈ dd_gt := List.mem_filter.mpr ⟨List.mem_of_getElem? (i := 285) (by decide +kernel), rfl⟩
set_option maxRecDepth 20000 in
theorem tb_282 : Cond.methodLink "DayDeskModel" 67 ⟨"DayDeskModel", "isWithin", "(J)Z"⟩ ∈ dd_gt := List.mem_filter.mpr ⟨List.mem_of_getElem? (i := 286) (by decide +kernel), rfl⟩
set_option maxRecDepth 20000 in
theorem tb_283 : Cond.static ⟨"DayDeskModel", "isWithin", "(J)Z"⟩ ∈ dd_gt := List.mem_filter.mpr ⟨List.mem_of_getElem? (i := 287) (by decide +kernel), rfl⟩
set_option maxRecDepth 20000 in
theorem tb_284 : Cond.code ⟨"DayDeskModel", "isWithin", "(J)Z"⟩ prog_7_method_11_code 2 (Option.some FieldType.boolean) ∈ dd_gt := List.mem_filter.mpr ⟨List.mem_of_getElem? (i := 288) rfl, rfl⟩
set_option maxRecDepth 20000 in
theorem tb_285 : Cond.constantLong "DayDeskModel" 56 (-9000000000000000000 : Int64) ∈ dd_gt := List.mem_filter.mpr ⟨List.mem_of_getElem? (i := 289) (by decide +kernel), rfl⟩
set_option maxRecDepth 20000 in
theorem tb_286 : Cond.constantLong "DayDeskModel" 58 (9000000000000000000 : Int64) ∈ dd_gt := List.mem_filter.mpr ⟨List.mem_of_getElem? (i := 290) (by decide +kernel), rfl⟩
set_option maxRecDepth 20000 in
theorem tb_287 : Cond.methodLink "DayDeskLaw" 43 ⟨"DayDeskModel", "row", "(II)J"⟩ ∈ dd_gt := List.mem_filter.mpr ⟨List.mem_of_getElem? (i := 291) (by decide +kernel), rfl⟩
set_option maxRecDepth 20000 in
theorem tb_288 : Cond.methodLink "DayDeskLaw" 48 ⟨"DayDeskModel", "isTold", "(I)Z"⟩ ∈ dd_gt := List.mem_filter.mpr ⟨List.mem_of_getElem? (i := 292) (by decide +kernel), rfl⟩
set_option maxRecDepth 20000 in
theorem tb_289 : Cond.instanceMethod ⟨"DayDeskModel", "isTold", "(I)Z"⟩ ∈ dd_gt := List.mem_filter.mpr ⟨List.mem_of_getElem? (i := 293) (by decide +kernel), rfl⟩
set_option maxRecDepth 20000 in
theorem tb_290 : Cond.selects "DayDeskModel" ⟨"DayDeskModel", "isTold", "(I)Z"⟩ ⟨"DayDeskModel", "isTold", "(I)Z"⟩ ∈ dd_gt := List.mem_filter.mpr ⟨List.mem_of_getElem? (i := 294) (by decide +kernel), rfl⟩
set_option maxRecDepth 20000 in
theorem tb_291 : Cond.code ⟨"DayDeskModel", "isTold", "(I)Z"⟩ prog_7_method_14_code 2 (Option.some FieldType.boolean) ∈ dd_gt := List.mem_filter.mpr ⟨List.mem_of_getElem? (i := 295) rfl, rfl⟩
set_option maxRecDepth 20000 in
theorem tb_292 : Cond.methodLink "DayDeskLaw" 52 ⟨"DayDeskModel", "write", "(I)I"⟩ ∈ dd_gt := List.mem_filter.mpr ⟨List.mem_of_getElem? (i := 296) (by decide +kernel), rfl⟩
set_option maxRecDepth 20000 in
theorem tb_293 : Cond.instanceMethod ⟨"DayDeskModel", "write", "(I)I"⟩ ∈ dd_gt := List.mem_filter.mpr ⟨List.mem_of_getElem? (i := 297) (by decide +kernel), rfl⟩
set_option maxRecDepth 20000 in
theorem tb_294 : Cond.selects "DayDeskModel" ⟨"DayDeskModel", "write", "(I)I"⟩ ⟨"DayDeskModel", "write", "(I)I"⟩ ∈ dd_gt := List.mem_filter.mpr ⟨List.mem_of_getElem? (i := 298) (by decide +kernel), rfl⟩
set_option maxRecDepth 20000 in
theorem tb_295 : Cond.code ⟨"DayDeskModel", "write", "(I)I"⟩ prog_7_method_17_code 3 (Option.some FieldType.int) ∈ dd_gt := List.mem_filter.mpr ⟨List.mem_of_getElem? (i := 299) rfl, rfl⟩
set_option maxRecDepth 20000 in
theorem tb_296 : Cond.methodLink "DayDeskModel" 74 ⟨"DayDeskModel", "put", "(I)V"⟩ ∈ dd_gt := List.mem_filter.mpr ⟨List.mem_of_getElem? (i := 300) (by decide +kernel), rfl⟩
set_option maxRecDepth 20000 in
theorem tb_298 : Cond.instanceMethod ⟨"DayDeskModel", "put", "(I)V"⟩ ∈ dd_gt := List.mem_filter.mpr ⟨List.mem_of_getElem? (i := 302) (by decide +kernel), rfl⟩
set_option maxRecDepth 20000 in
theorem tb_299 : Cond.code ⟨"DayDeskModel", "put", "(I)V"⟩ prog_7_method_15_code 2 (Option.none : Option FieldType) ∈ dd_gt := List.mem_filter.mpr ⟨List.mem_of_getElem? (i := 303) rfl, rfl⟩
set_option maxRecDepth 20000 in
theorem tb_300 : Cond.methodLink "DayDeskModel" 80 ⟨"DayDeskModel", "number", "(J)V"⟩ ∈ dd_gt := List.mem_filter.mpr ⟨List.mem_of_getElem? (i := 304) (by decide +kernel), rfl⟩
set_option maxRecDepth 20000 in
theorem tb_302 : Cond.instanceMethod ⟨"DayDeskModel", "number", "(J)V"⟩ ∈ dd_gt := List.mem_filter.mpr ⟨List.mem_of_getElem? (i := 306) (by decide +kernel), rfl⟩
set_option maxRecDepth 20000 in
theorem tb_303 : Cond.code ⟨"DayDeskModel", "number", "(J)V"⟩ prog_7_method_16_code 9 (Option.none : Option FieldType) ∈ dd_gt := List.mem_filter.mpr ⟨List.mem_of_getElem? (i := 307) rfl, rfl⟩
set_option maxRecDepth 20000 in
theorem tb_304 : Cond.constantLong "DayDeskModel" 78 (10 : Int64) ∈ dd_gt := List.mem_filter.mpr ⟨List.mem_of_getElem? (i := 308) (by decide +kernel), rfl⟩
set_option maxRecDepth 20000 in
theorem tb_305 : Cond.methodLink "DayDeskLaw" 56 ⟨"DayDeskModel", "at", "(I)I"⟩ ∈ dd_gt := List.mem_filter.mpr ⟨List.mem_of_getElem? (i := 309) (by decide +kernel), rfl⟩
set_option maxRecDepth 20000 in
theorem tb_306 : Cond.instanceMethod ⟨"DayDeskModel", "at", "(I)I"⟩ ∈ dd_gt := List.mem_filter.mpr ⟨List.mem_of_getElem? (i := 310) (by decide +kernel), rfl⟩
set_option maxRecDepth 20000 in
theorem tb_307 : Cond.selects "DayDeskModel" ⟨"DayDeskModel", "at", "(I)I"⟩ ⟨"DayDeskModel", "at", "(I)I"⟩ ∈ dd_gt := List.mem_filter.mpr ⟨List.mem_of_getElem? (i := 311) (by decide +kernel), rfl⟩
set_option maxRecDepth 20000 in
theorem tb_308 : Cond.code ⟨"DayDeskModel", "at", "(I)I"⟩ prog_7_method_18_code 2 (Option.some FieldType.int) ∈ dd_gt := List.mem_filter.mpr ⟨List.mem_of_getElem? (i := 312) rfl, rfl⟩
set_option maxRecDepth 20000 in
theorem tb_309 : Cond.constantLong "DayDeskLaw" 32 (4294967295 : Int64) ∈ dd_gt := List.mem_filter.mpr ⟨List.mem_of_getElem? (i := 313) (by decide +kernel), rfl⟩
set_option maxRecDepth 20000 in
theorem tb_311 : Cond.fieldLink "DayDesk$Phase" 45 "DayDesk$Phase" "barred" "I" ∈ dd_gt := List.mem_filter.mpr ⟨List.mem_of_getElem? (i := 315) (by decide +kernel), rfl⟩
set_option maxRecDepth 20000 in
theorem tb_p0 : Cond.selects "DayDeskModel" ⟨"DayDeskModel", "tick", "()I"⟩ ⟨"DayDeskModel", "tick", "()I"⟩ ∈ dd_gt := List.mem_filter.mpr ⟨List.mem_of_getElem? (i := 0) (by decide +kernel), rfl⟩
set_option maxRecDepth 20000 in
theorem tb_p1 : Cond.selects "DayDeskModel" ⟨"DayDeskModel", "begin", "()V"⟩ ⟨"DayDeskModel", "begin", "()V"⟩ ∈ dd_gt := List.mem_filter.mpr ⟨List.mem_of_getElem? (i := 1) (by decide +kernel), rfl⟩
set_option maxRecDepth 20000 in
theorem tb_p2 : Cond.selects "DayDeskModel" ⟨"DayDeskModel", "put", "(I)V"⟩ ⟨"DayDeskModel", "put", "(I)V"⟩ ∈ dd_gt := List.mem_filter.mpr ⟨List.mem_of_getElem? (i := 2) (by decide +kernel), rfl⟩
set_option maxRecDepth 20000 in
theorem tb_p3 : Cond.selects "DayDeskModel" ⟨"DayDeskModel", "number", "(J)V"⟩ ⟨"DayDeskModel", "number", "(J)V"⟩ ∈ dd_gt := List.mem_filter.mpr ⟨List.mem_of_getElem? (i := 3) (by decide +kernel), rfl⟩
set_option maxRecDepth 20000 in
theorem tx_18 : Cond.methodLinkNest "DayDesk" 9 ⟨"DayDesk$DayClock", "<init>", "()V"⟩ "DayDesk" ∈ lw_tbl := List.mem_of_getElem? (i := 22) (by decide +kernel)
set_option maxRecDepth 20000 in
theorem tx_26 : Cond.laysStatic "DayDesk$Phase" "$VALUES" "[LDayDesk$Phase;" ∈ lw_tbl := List.mem_of_getElem? (i := 30) (by decide +kernel)
set_option maxRecDepth 20000 in
theorem tx_32 : Cond.castable "[LDayDesk$Phase;" "java/lang/Cloneable" ∈ lw_tbl := List.mem_of_getElem? (i := 36) (by decide +kernel)
set_option maxRecDepth 20000 in
theorem tx_33 : Cond.arrayOver (FieldType.object "DayDesk$Phase") ∈ lw_tbl := List.mem_of_getElem? (i := 37) (by decide +kernel)
set_option maxRecDepth 20000 in
theorem tx_37 : Cond.fieldLinkNest "DayDesk" 45 "DayDesk$DayClock" "day" "I" "DayDesk" ∈ lw_tbl := List.mem_of_getElem? (i := 41) (by decide +kernel)
set_option maxRecDepth 20000 in
theorem tx_39 : Cond.fieldLinkNest "DayDesk" 49 "DayDesk$DayClock" "tick" "I" "DayDesk" ∈ lw_tbl := List.mem_of_getElem? (i := 43) (by decide +kernel)
set_option maxRecDepth 20000 in
theorem tx_73 : Cond.methodLinkNest "DayDesk" 27 ⟨"DayDesk$NumberWriter", "<init>", "()V"⟩ "DayDesk" ∈ lw_tbl := List.mem_of_getElem? (i := 77) (by decide +kernel)
set_option maxRecDepth 20000 in
theorem tx_78 : Cond.fieldLinkNest "DayDesk" 96 "DayDesk$NumberWriter" "bytes" "[B" "DayDesk" ∈ lw_tbl := List.mem_of_getElem? (i := 82) (by decide +kernel)
set_option maxRecDepth 20000 in
theorem tx_81 : Cond.fieldLinkNest "DayDesk" 86 "DayDesk$NumberWriter" "size" "I" "DayDesk" ∈ lw_tbl := List.mem_of_getElem? (i := 85) (by decide +kernel)
set_option maxRecDepth 20000 in
theorem tx_138 : Cond.laysStatic "DayDesk$Phase" "LATE" "LDayDesk$Phase;" ∈ lw_tbl := List.mem_of_getElem? (i := 142) (by decide +kernel)
set_option maxRecDepth 20000 in
theorem tx_140 : Cond.laysStatic "DayDesk$Phase" "FINAL" "LDayDesk$Phase;" ∈ lw_tbl := List.mem_of_getElem? (i := 144) (by decide +kernel)
set_option maxRecDepth 20000 in
theorem tx_241 : Cond.privateMethod ⟨"DayDeskModel", "tick", "()I"⟩ ∈ lw_tbl := List.mem_of_getElem? (i := 245) (by decide +kernel)
set_option maxRecDepth 20000 in
theorem tx_246 : Cond.privateMethod ⟨"DayDeskModel", "begin", "()V"⟩ ∈ lw_tbl := List.mem_of_getElem? (i := 250) (by decide +kernel)
set_option maxRecDepth 20000 in
theorem tx_297 : Cond.privateMethod ⟨"DayDeskModel", "put", "(I)V"⟩ ∈ lw_tbl := List.mem_of_getElem? (i := 301) (by decide +kernel)
set_option maxRecDepth 20000 in
theorem tx_301 : Cond.privateMethod ⟨"DayDeskModel", "number", "(J)V"⟩ ∈ lw_tbl := List.mem_of_getElem? (i := 305) (by decide +kernel)
set_option maxRecDepth 20000 in
theorem tx_310 : Cond.fieldLinkNest "DayDesk$DayClock" 19 "DayDesk$Phase" "begin" "I" "DayDesk" ∈ lw_tbl := List.mem_of_getElem? (i := 314) (by decide +kernel)
set_option maxRecDepth 20000 in
theorem tx_312 : Cond.fieldLinkNest "DayDesk" 56 "DayDesk$Phase" "number" "I" "DayDesk" ∈ lw_tbl := List.mem_of_getElem? (i := 316) (by decide +kernel)
set_option maxRecDepth 20000 in
theorem tx_313 : Cond.fieldLinkNest "DayDesk$DayClock" 47 "DayDesk$Phase" "number" "I" "DayDesk" ∈ lw_tbl := List.mem_of_getElem? (i := 317) (by decide +kernel)
set_option maxRecDepth 20000 in
theorem tx_314 : Cond.laysStatic "DayDesk$Phase" "EARLY" "LDayDesk$Phase;" ∈ lw_tbl := List.mem_of_getElem? (i := 318) (by decide +kernel)
set_option maxRecDepth 20000 in
theorem tx_315 : Cond.laysStatic "DayDesk$Phase" "OPEN" "LDayDesk$Phase;" ∈ lw_tbl := List.mem_of_getElem? (i := 319) (by decide +kernel)
set_option maxRecDepth 20000 in
theorem tx_316 : Cond.laysStatic "DayDesk$Phase" "SHUT" "LDayDesk$Phase;" ∈ lw_tbl := List.mem_of_getElem? (i := 320) (by decide +kernel)
theorem n_D : ∀ a, a < 3 → ∀ b, b < 3 → a ≠ b → (F_D a).2.1 ≠ (F_D b).2.1 := by decide +kernel
theorem t_D_ok : ∀ k, k < 3 → parseFieldDescriptor (F_D k).2.2.1 = some (t_D k) := by decide +kernel
theorem i_D : ∀ w ∈ u_ws R_D F_D 3, w ∈ dd_gt := by
  intro w h
  obtain ⟨k, hk, rfl⟩ := List.mem_map.mp h
  have hk := List.mem_range.mp hk
  rcases (show k = 0 ∨ k = 1 ∨ k = 2 by omega) with rfl | rfl | rfl
  · exact tb_93
  · exact tb_95
  · exact tb_97
theorem n_C : ∀ a, a < 3 → ∀ b, b < 3 → a ≠ b → (F_C a).2.1 ≠ (F_C b).2.1 := by decide +kernel
theorem t_C_ok : ∀ k, k < 3 → parseFieldDescriptor (F_C k).2.2.1 = some (t_C k) := by decide +kernel
theorem i_C : ∀ w ∈ u_ws R_C F_C 3, w ∈ dd_gt := by
  intro w h
  obtain ⟨k, hk, rfl⟩ := List.mem_map.mp h
  have hk := List.mem_range.mp hk
  rcases (show k = 0 ∨ k = 1 ∨ k = 2 by omega) with rfl | rfl | rfl
  · exact tb_40
  · exact tb_42
  · exact tb_44
theorem n_S : ∀ a, a < 5 → ∀ b, b < 5 → a ≠ b → (F_S a).2.1 ≠ (F_S b).2.1 := by decide +kernel
theorem t_S_ok : ∀ k, k < 5 → parseFieldDescriptor (F_S k).2.2.1 = some (t_S k) := by decide +kernel
theorem i_S : ∀ w ∈ u_ws R_S F_S 5, w ∈ dd_gt := by
  intro w h
  obtain ⟨k, hk, rfl⟩ := List.mem_map.mp h
  have hk := List.mem_range.mp hk
  rcases (show k = 0 ∨ k = 1 ∨ k = 2 ∨ k = 3 ∨ k = 4 by omega) with rfl | rfl | rfl | rfl | rfl
  · exact tb_58
  · exact tb_60
  · exact tb_62
  · exact tb_64
  · exact tb_66
theorem n_W : ∀ a, a < 3 → ∀ b, b < 3 → a ≠ b → (F_W a).2.1 ≠ (F_W b).2.1 := by decide +kernel
theorem t_W_ok : ∀ k, k < 3 → parseFieldDescriptor (F_W k).2.2.1 = some (t_W k) := by decide +kernel
theorem i_W : ∀ w ∈ u_ws R_W F_W 3, w ∈ dd_gt := by
  intro w h
  obtain ⟨k, hk, rfl⟩ := List.mem_map.mp h
  have hk := List.mem_range.mp hk
  rcases (show k = 0 ∨ k = 1 ∨ k = 2 by omega) with rfl | rfl | rfl
  · exact tb_82
  · exact tb_84
  · exact tb_86
theorem n_M : ∀ a, a < 7 → ∀ b, b < 7 → a ≠ b → (F_M a).2.1 ≠ (F_M b).2.1 := by decide +kernel
theorem t_M_ok : ∀ k, k < 7 → parseFieldDescriptor (F_M k).2.2.1 = some (t_M k) := by decide +kernel
theorem i_M : ∀ w ∈ u_ws R_M F_M 7, w ∈ dd_gt := by
  intro w h
  obtain ⟨k, hk, rfl⟩ := List.mem_map.mp h
  have hk := List.mem_range.mp hk
  rcases (show k = 0 ∨ k = 1 ∨ k = 2 ∨ k = 3 ∨ k = 4 ∨ k = 5 ∨ k = 6 by omega) with rfl | rfl | rfl | rfl | rfl | rfl | rfl
  · exact tb_221
  · exact tb_223
  · exact tb_225
  · exact tb_227
  · exact tb_229
  · exact tb_231
  · exact tb_233
theorem hd_D_init : y_D_init.cls = "DayDesk" ∧ y_D_init.cls ≠ "java/lang/invoke/MethodHandle" ∧ y_D_init.cls ≠ "java/lang/invoke/VarHandle" ∧ (parseMethodDescriptor y_D_init.desc).map (fun d => d.parameters.length) = some 0 := by decide +kernel
theorem hd_D_pass : y_D_pass.cls = "DayDesk" ∧ y_D_pass.cls ≠ "java/lang/invoke/MethodHandle" ∧ y_D_pass.cls ≠ "java/lang/invoke/VarHandle" ∧ (parseMethodDescriptor y_D_pass.desc).map (fun d => d.parameters.length) = some 0 := by decide +kernel
theorem hd_D_skip : y_D_skip.cls = "DayDesk" ∧ y_D_skip.cls ≠ "java/lang/invoke/MethodHandle" ∧ y_D_skip.cls ≠ "java/lang/invoke/VarHandle" ∧ (parseMethodDescriptor y_D_skip.desc).map (fun d => d.parameters.length) = some 1 := by decide +kernel
theorem hd_D_may : y_D_may.cls = "DayDesk" ∧ y_D_may.cls ≠ "java/lang/invoke/MethodHandle" ∧ y_D_may.cls ≠ "java/lang/invoke/VarHandle" ∧ (parseMethodDescriptor y_D_may.desc).map (fun d => d.parameters.length) = some 3 := by decide +kernel
theorem hd_D_look : y_D_look.cls = "DayDesk" ∧ y_D_look.cls ≠ "java/lang/invoke/MethodHandle" ∧ y_D_look.cls ≠ "java/lang/invoke/VarHandle" ∧ (parseMethodDescriptor y_D_look.desc).map (fun d => d.parameters.length) = some 1 := by decide +kernel
theorem hd_D_move : y_D_move.cls = "DayDesk" ∧ y_D_move.cls ≠ "java/lang/invoke/MethodHandle" ∧ y_D_move.cls ≠ "java/lang/invoke/VarHandle" ∧ (parseMethodDescriptor y_D_move.desc).map (fun d => d.parameters.length) = some 2 := by decide +kernel
theorem hd_D_row : y_D_row.cls = "DayDesk" ∧ y_D_row.cls ≠ "java/lang/invoke/MethodHandle" ∧ y_D_row.cls ≠ "java/lang/invoke/VarHandle" ∧ (parseMethodDescriptor y_D_row.desc).map (fun d => d.parameters.length) = some 2 := by decide +kernel
theorem hd_D_isTold : y_D_isTold.cls = "DayDesk" ∧ y_D_isTold.cls ≠ "java/lang/invoke/MethodHandle" ∧ y_D_isTold.cls ≠ "java/lang/invoke/VarHandle" ∧ (parseMethodDescriptor y_D_isTold.desc).map (fun d => d.parameters.length) = some 1 := by decide +kernel
theorem hd_D_write : y_D_write.cls = "DayDesk" ∧ y_D_write.cls ≠ "java/lang/invoke/MethodHandle" ∧ y_D_write.cls ≠ "java/lang/invoke/VarHandle" ∧ (parseMethodDescriptor y_D_write.desc).map (fun d => d.parameters.length) = some 1 := by decide +kernel
theorem hd_D_at : y_D_at.cls = "DayDesk" ∧ y_D_at.cls ≠ "java/lang/invoke/MethodHandle" ∧ y_D_at.cls ≠ "java/lang/invoke/VarHandle" ∧ (parseMethodDescriptor y_D_at.desc).map (fun d => d.parameters.length) = some 1 := by decide +kernel
theorem hd_M_init : y_M_init.cls = "DayDeskModel" ∧ y_M_init.cls ≠ "java/lang/invoke/MethodHandle" ∧ y_M_init.cls ≠ "java/lang/invoke/VarHandle" ∧ (parseMethodDescriptor y_M_init.desc).map (fun d => d.parameters.length) = some 0 := by decide +kernel
theorem hd_M_tick : y_M_tick.cls = "DayDeskModel" ∧ y_M_tick.cls ≠ "java/lang/invoke/MethodHandle" ∧ y_M_tick.cls ≠ "java/lang/invoke/VarHandle" ∧ (parseMethodDescriptor y_M_tick.desc).map (fun d => d.parameters.length) = some 0 := by decide +kernel
theorem hd_M_isResolved : y_M_isResolved.cls = "DayDeskModel" ∧ y_M_isResolved.cls ≠ "java/lang/invoke/MethodHandle" ∧ y_M_isResolved.cls ≠ "java/lang/invoke/VarHandle" ∧ (parseMethodDescriptor y_M_isResolved.desc).map (fun d => d.parameters.length) = some 1 := by decide +kernel
theorem hd_M_phaseOf : y_M_phaseOf.cls = "DayDeskModel" ∧ y_M_phaseOf.cls ≠ "java/lang/invoke/MethodHandle" ∧ y_M_phaseOf.cls ≠ "java/lang/invoke/VarHandle" ∧ (parseMethodDescriptor y_M_phaseOf.desc).map (fun d => d.parameters.length) = some 1 := by decide +kernel
theorem hd_M_begin : y_M_begin.cls = "DayDeskModel" ∧ y_M_begin.cls ≠ "java/lang/invoke/MethodHandle" ∧ y_M_begin.cls ≠ "java/lang/invoke/VarHandle" ∧ (parseMethodDescriptor y_M_begin.desc).map (fun d => d.parameters.length) = some 0 := by decide +kernel
theorem hd_M_pass : y_M_pass.cls = "DayDeskModel" ∧ y_M_pass.cls ≠ "java/lang/invoke/MethodHandle" ∧ y_M_pass.cls ≠ "java/lang/invoke/VarHandle" ∧ (parseMethodDescriptor y_M_pass.desc).map (fun d => d.parameters.length) = some 0 := by decide +kernel
theorem hd_M_skip : y_M_skip.cls = "DayDeskModel" ∧ y_M_skip.cls ≠ "java/lang/invoke/MethodHandle" ∧ y_M_skip.cls ≠ "java/lang/invoke/VarHandle" ∧ (parseMethodDescriptor y_M_skip.desc).map (fun d => d.parameters.length) = some 1 := by decide +kernel
theorem hd_M_may : y_M_may.cls = "DayDeskModel" ∧ y_M_may.cls ≠ "java/lang/invoke/MethodHandle" ∧ y_M_may.cls ≠ "java/lang/invoke/VarHandle" ∧ (parseMethodDescriptor y_M_may.desc).map (fun d => d.parameters.length) = some 3 := by decide +kernel
theorem hd_M_look : y_M_look.cls = "DayDeskModel" ∧ y_M_look.cls ≠ "java/lang/invoke/MethodHandle" ∧ y_M_look.cls ≠ "java/lang/invoke/VarHandle" ∧ (parseMethodDescriptor y_M_look.desc).map (fun d => d.parameters.length) = some 1 := by decide +kernel
theorem hd_M_isPosition : y_M_isPosition.cls = "DayDeskModel" ∧ y_M_isPosition.cls ≠ "java/lang/invoke/MethodHandle" ∧ y_M_isPosition.cls ≠ "java/lang/invoke/VarHandle" ∧ (parseMethodDescriptor y_M_isPosition.desc).map (fun d => d.parameters.length) = some 1 := by decide +kernel
theorem hd_M_isWithin : y_M_isWithin.cls = "DayDeskModel" ∧ y_M_isWithin.cls ≠ "java/lang/invoke/MethodHandle" ∧ y_M_isWithin.cls ≠ "java/lang/invoke/VarHandle" ∧ (parseMethodDescriptor y_M_isWithin.desc).map (fun d => d.parameters.length) = some 1 := by decide +kernel
theorem hd_M_move : y_M_move.cls = "DayDeskModel" ∧ y_M_move.cls ≠ "java/lang/invoke/MethodHandle" ∧ y_M_move.cls ≠ "java/lang/invoke/VarHandle" ∧ (parseMethodDescriptor y_M_move.desc).map (fun d => d.parameters.length) = some 2 := by decide +kernel
theorem hd_M_row : y_M_row.cls = "DayDeskModel" ∧ y_M_row.cls ≠ "java/lang/invoke/MethodHandle" ∧ y_M_row.cls ≠ "java/lang/invoke/VarHandle" ∧ (parseMethodDescriptor y_M_row.desc).map (fun d => d.parameters.length) = some 2 := by decide +kernel
theorem hd_M_isTold : y_M_isTold.cls = "DayDeskModel" ∧ y_M_isTold.cls ≠ "java/lang/invoke/MethodHandle" ∧ y_M_isTold.cls ≠ "java/lang/invoke/VarHandle" ∧ (parseMethodDescriptor y_M_isTold.desc).map (fun d => d.parameters.length) = some 1 := by decide +kernel
theorem hd_M_put : y_M_put.cls = "DayDeskModel" ∧ y_M_put.cls ≠ "java/lang/invoke/MethodHandle" ∧ y_M_put.cls ≠ "java/lang/invoke/VarHandle" ∧ (parseMethodDescriptor y_M_put.desc).map (fun d => d.parameters.length) = some 1 := by decide +kernel
theorem hd_M_number : y_M_number.cls = "DayDeskModel" ∧ y_M_number.cls ≠ "java/lang/invoke/MethodHandle" ∧ y_M_number.cls ≠ "java/lang/invoke/VarHandle" ∧ (parseMethodDescriptor y_M_number.desc).map (fun d => d.parameters.length) = some 1 := by decide +kernel
theorem hd_M_write : y_M_write.cls = "DayDeskModel" ∧ y_M_write.cls ≠ "java/lang/invoke/MethodHandle" ∧ y_M_write.cls ≠ "java/lang/invoke/VarHandle" ∧ (parseMethodDescriptor y_M_write.desc).map (fun d => d.parameters.length) = some 1 := by decide +kernel
theorem hd_M_at : y_M_at.cls = "DayDeskModel" ∧ y_M_at.cls ≠ "java/lang/invoke/MethodHandle" ∧ y_M_at.cls ≠ "java/lang/invoke/VarHandle" ∧ (parseMethodDescriptor y_M_at.desc).map (fun d => d.parameters.length) = some 1 := by decide +kernel
theorem hd_C_init : y_C_init.cls = "DayDesk$DayClock" ∧ y_C_init.cls ≠ "java/lang/invoke/MethodHandle" ∧ y_C_init.cls ≠ "java/lang/invoke/VarHandle" ∧ (parseMethodDescriptor y_C_init.desc).map (fun d => d.parameters.length) = some 0 := by decide +kernel
theorem hd_C_phase : y_C_phase.cls = "DayDesk$DayClock" ∧ y_C_phase.cls ≠ "java/lang/invoke/MethodHandle" ∧ y_C_phase.cls ≠ "java/lang/invoke/VarHandle" ∧ (parseMethodDescriptor y_C_phase.desc).map (fun d => d.parameters.length) = some 0 := by decide +kernel
theorem hd_C_isResolved : y_C_isResolved.cls = "DayDesk$DayClock" ∧ y_C_isResolved.cls ≠ "java/lang/invoke/MethodHandle" ∧ y_C_isResolved.cls ≠ "java/lang/invoke/VarHandle" ∧ (parseMethodDescriptor y_C_isResolved.desc).map (fun d => d.parameters.length) = some 1 := by decide +kernel
theorem hd_C_pass : y_C_pass.cls = "DayDesk$DayClock" ∧ y_C_pass.cls ≠ "java/lang/invoke/MethodHandle" ∧ y_C_pass.cls ≠ "java/lang/invoke/VarHandle" ∧ (parseMethodDescriptor y_C_pass.desc).map (fun d => d.parameters.length) = some 0 := by decide +kernel
theorem hd_C_may : y_C_may.cls = "DayDesk$DayClock" ∧ y_C_may.cls ≠ "java/lang/invoke/MethodHandle" ∧ y_C_may.cls ≠ "java/lang/invoke/VarHandle" ∧ (parseMethodDescriptor y_C_may.desc).map (fun d => d.parameters.length) = some 3 := by decide +kernel
theorem hd_C_tillResolved : y_C_tillResolved.cls = "DayDesk$DayClock" ∧ y_C_tillResolved.cls ≠ "java/lang/invoke/MethodHandle" ∧ y_C_tillResolved.cls ≠ "java/lang/invoke/VarHandle" ∧ (parseMethodDescriptor y_C_tillResolved.desc).map (fun d => d.parameters.length) = some 0 := by decide +kernel
theorem hd_C_tillPhase : y_C_tillPhase.cls = "DayDesk$DayClock" ∧ y_C_tillPhase.cls ≠ "java/lang/invoke/MethodHandle" ∧ y_C_tillPhase.cls ≠ "java/lang/invoke/VarHandle" ∧ (parseMethodDescriptor y_C_tillPhase.desc).map (fun d => d.parameters.length) = some 0 := by decide +kernel
theorem hd_W_init : y_W_init.cls = "DayDesk$NumberWriter" ∧ y_W_init.cls ≠ "java/lang/invoke/MethodHandle" ∧ y_W_init.cls ≠ "java/lang/invoke/VarHandle" ∧ (parseMethodDescriptor y_W_init.desc).map (fun d => d.parameters.length) = some 0 := by decide +kernel
theorem hd_W_blank : y_W_blank.cls = "DayDesk$NumberWriter" ∧ y_W_blank.cls ≠ "java/lang/invoke/MethodHandle" ∧ y_W_blank.cls ≠ "java/lang/invoke/VarHandle" ∧ (parseMethodDescriptor y_W_blank.desc).map (fun d => d.parameters.length) = some 0 := by decide +kernel
theorem hd_W_write : y_W_write.cls = "DayDesk$NumberWriter" ∧ y_W_write.cls ≠ "java/lang/invoke/MethodHandle" ∧ y_W_write.cls ≠ "java/lang/invoke/VarHandle" ∧ (parseMethodDescriptor y_W_write.desc).map (fun d => d.parameters.length) = some 1 := by decide +kernel
theorem hd_P_values : y_P_values.cls = "DayDesk$Phase" ∧ y_P_values.cls ≠ "java/lang/invoke/MethodHandle" ∧ y_P_values.cls ≠ "java/lang/invoke/VarHandle" ∧ (parseMethodDescriptor y_P_values.desc).map (fun d => d.parameters.length) = some 0 := by decide +kernel
theorem hd_P_bars : y_P_bars.cls = "DayDesk$Phase" ∧ y_P_bars.cls ≠ "java/lang/invoke/MethodHandle" ∧ y_P_bars.cls ≠ "java/lang/invoke/VarHandle" ∧ (parseMethodDescriptor y_P_bars.desc).map (fun d => d.parameters.length) = some 1 := by decide +kernel
theorem hd_S_init : y_S_init.cls = "DayDesk$Sums" ∧ y_S_init.cls ≠ "java/lang/invoke/MethodHandle" ∧ y_S_init.cls ≠ "java/lang/invoke/VarHandle" ∧ (parseMethodDescriptor y_S_init.desc).map (fun d => d.parameters.length) = some 1 := by decide +kernel
theorem hd_S_isPosition : y_S_isPosition.cls = "DayDesk$Sums" ∧ y_S_isPosition.cls ≠ "java/lang/invoke/MethodHandle" ∧ y_S_isPosition.cls ≠ "java/lang/invoke/VarHandle" ∧ (parseMethodDescriptor y_S_isPosition.desc).map (fun d => d.parameters.length) = some 1 := by decide +kernel
theorem hd_S_isWithin : y_S_isWithin.cls = "DayDesk$Sums" ∧ y_S_isWithin.cls ≠ "java/lang/invoke/MethodHandle" ∧ y_S_isWithin.cls ≠ "java/lang/invoke/VarHandle" ∧ (parseMethodDescriptor y_S_isWithin.desc).map (fun d => d.parameters.length) = some 2 := by decide +kernel
theorem hd_S_canMove : y_S_canMove.cls = "DayDesk$Sums" ∧ y_S_canMove.cls ≠ "java/lang/invoke/MethodHandle" ∧ y_S_canMove.cls ≠ "java/lang/invoke/VarHandle" ∧ (parseMethodDescriptor y_S_canMove.desc).map (fun d => d.parameters.length) = some 2 := by decide +kernel
theorem hd_S_move : y_S_move.cls = "DayDesk$Sums" ∧ y_S_move.cls ≠ "java/lang/invoke/MethodHandle" ∧ y_S_move.cls ≠ "java/lang/invoke/VarHandle" ∧ (parseMethodDescriptor y_S_move.desc).map (fun d => d.parameters.length) = some 2 := by decide +kernel
theorem hd_S_isTold : y_S_isTold.cls = "DayDesk$Sums" ∧ y_S_isTold.cls ≠ "java/lang/invoke/MethodHandle" ∧ y_S_isTold.cls ≠ "java/lang/invoke/VarHandle" ∧ (parseMethodDescriptor y_S_isTold.desc).map (fun d => d.parameters.length) = some 1 := by decide +kernel
theorem hd_S_of : y_S_of.cls = "DayDesk$Sums" ∧ y_S_of.cls ≠ "java/lang/invoke/MethodHandle" ∧ y_S_of.cls ≠ "java/lang/invoke/VarHandle" ∧ (parseMethodDescriptor y_S_of.desc).map (fun d => d.parameters.length) = some 2 := by decide +kernel
theorem hd_S_begin : y_S_begin.cls = "DayDesk$Sums" ∧ y_S_begin.cls ≠ "java/lang/invoke/MethodHandle" ∧ y_S_begin.cls ≠ "java/lang/invoke/VarHandle" ∧ (parseMethodDescriptor y_S_begin.desc).map (fun d => d.parameters.length) = some 0 := by decide +kernel
end
section
/-! the instructions, read -/
theorem d_D_init_0 : decode b_D_init 0 = .ok (.aload_n 0, 1) := by decide +kernel
theorem d_D_init_1 : decode b_D_init 1 = .ok (.invokespecial 1, 3) := by decide +kernel
theorem d_D_init_4 : decode b_D_init 4 = .ok (.aload_n 0, 1) := by decide +kernel
theorem d_D_init_5 : decode b_D_init 5 = .ok (.new 7, 3) := by decide +kernel
theorem d_D_init_8 : decode b_D_init 8 = .ok (.dup, 1) := by decide +kernel
theorem d_D_init_9 : decode b_D_init 9 = .ok (.invokespecial 9, 3) := by decide +kernel
theorem d_D_init_12 : decode b_D_init 12 = .ok (.putfield 10, 3) := by decide +kernel
theorem d_D_init_15 : decode b_D_init 15 = .ok (.aload_n 0, 1) := by decide +kernel
theorem d_D_init_16 : decode b_D_init 16 = .ok (.new 16, 3) := by decide +kernel
theorem d_D_init_19 : decode b_D_init 19 = .ok (.dup, 1) := by decide +kernel
theorem d_D_init_20 : decode b_D_init 20 = .ok (.sipush 200, 3) := by decide +kernel
theorem d_D_init_23 : decode b_D_init 23 = .ok (.invokespecial 18, 3) := by decide +kernel
theorem d_D_init_26 : decode b_D_init 26 = .ok (.putfield 21, 3) := by decide +kernel
theorem d_D_init_29 : decode b_D_init 29 = .ok (.aload_n 0, 1) := by decide +kernel
theorem d_D_init_30 : decode b_D_init 30 = .ok (.new 25, 3) := by decide +kernel
theorem d_D_init_33 : decode b_D_init 33 = .ok (.dup, 1) := by decide +kernel
theorem d_D_init_34 : decode b_D_init 34 = .ok (.invokespecial 27, 3) := by decide +kernel
theorem d_D_init_37 : decode b_D_init 37 = .ok (.putfield 28, 3) := by decide +kernel
theorem d_D_init_40 : decode b_D_init 40 = .ok (.return_, 1) := by decide +kernel
theorem d_D_pass_0 : decode b_D_pass 0 = .ok (.aload_n 0, 1) := by decide +kernel
theorem d_D_pass_1 : decode b_D_pass 1 = .ok (.getfield 10, 3) := by decide +kernel
theorem d_D_pass_4 : decode b_D_pass 4 = .ok (.invokevirtual 32, 3) := by decide +kernel
theorem d_D_pass_7 : decode b_D_pass 7 = .ok (.istore_n 1, 1) := by decide +kernel
theorem d_D_pass_8 : decode b_D_pass 8 = .ok (.iload_n 1, 1) := by decide +kernel
theorem d_D_pass_9 : decode b_D_pass 9 = .ok (.iconst 4, 1) := by decide +kernel
theorem d_D_pass_10 : decode b_D_pass 10 = .ok (.iand, 1) := by decide +kernel
theorem d_D_pass_11 : decode b_D_pass 11 = .ok (.ifCond .eq 10, 3) := by decide +kernel
theorem d_D_pass_14 : decode b_D_pass 14 = .ok (.aload_n 0, 1) := by decide +kernel
theorem d_D_pass_15 : decode b_D_pass 15 = .ok (.getfield 21, 3) := by decide +kernel
theorem d_D_pass_18 : decode b_D_pass 18 = .ok (.invokevirtual 36, 3) := by decide +kernel
theorem d_D_pass_21 : decode b_D_pass 21 = .ok (.iload_n 1, 1) := by decide +kernel
theorem d_D_pass_22 : decode b_D_pass 22 = .ok (.ireturn, 1) := by decide +kernel
theorem d_D_skip_0 : decode b_D_skip 0 = .ok (.iload_n 1, 1) := by decide +kernel
theorem d_D_skip_1 : decode b_D_skip 1 = .ok (.iconst 1, 1) := by decide +kernel
theorem d_D_skip_2 : decode b_D_skip 2 = .ok (.if_icmp .lt 9, 3) := by decide +kernel
theorem d_D_skip_5 : decode b_D_skip 5 = .ok (.iload_n 1, 1) := by decide +kernel
theorem d_D_skip_6 : decode b_D_skip 6 = .ok (.ldc 39, 2) := by decide +kernel
theorem d_D_skip_8 : decode b_D_skip 8 = .ok (.if_icmp .le 5, 3) := by decide +kernel
theorem d_D_skip_11 : decode b_D_skip 11 = .ok (.iconst (-1), 1) := by decide +kernel
theorem d_D_skip_12 : decode b_D_skip 12 = .ok (.ireturn, 1) := by decide +kernel
theorem d_D_skip_13 : decode b_D_skip 13 = .ok (.iconst 0, 1) := by decide +kernel
theorem d_D_skip_14 : decode b_D_skip 14 = .ok (.istore_n 2, 1) := by decide +kernel
theorem d_D_skip_15 : decode b_D_skip 15 = .ok (.iconst 0, 1) := by decide +kernel
theorem d_D_skip_16 : decode b_D_skip 16 = .ok (.istore_n 3, 1) := by decide +kernel
theorem d_D_skip_17 : decode b_D_skip 17 = .ok (.iload_n 3, 1) := by decide +kernel
theorem d_D_skip_18 : decode b_D_skip 18 = .ok (.iload_n 1, 1) := by decide +kernel
theorem d_D_skip_19 : decode b_D_skip 19 = .ok (.if_icmp .ge 18, 3) := by decide +kernel
theorem d_D_skip_22 : decode b_D_skip 22 = .ok (.iload_n 2, 1) := by decide +kernel
theorem d_D_skip_23 : decode b_D_skip 23 = .ok (.aload_n 0, 1) := by decide +kernel
theorem d_D_skip_24 : decode b_D_skip 24 = .ok (.invokevirtual 40, 3) := by decide +kernel
theorem d_D_skip_27 : decode b_D_skip 27 = .ok (.iconst 1, 1) := by decide +kernel
theorem d_D_skip_28 : decode b_D_skip 28 = .ok (.iand, 1) := by decide +kernel
theorem d_D_skip_29 : decode b_D_skip 29 = .ok (.iadd, 1) := by decide +kernel
theorem d_D_skip_30 : decode b_D_skip 30 = .ok (.istore_n 2, 1) := by decide +kernel
theorem d_D_skip_31 : decode b_D_skip 31 = .ok (.iinc 3 1, 3) := by decide +kernel
theorem d_D_skip_34 : decode b_D_skip 34 = .ok (.goto (-17), 3) := by decide +kernel
theorem d_D_skip_37 : decode b_D_skip 37 = .ok (.iload_n 2, 1) := by decide +kernel
theorem d_D_skip_38 : decode b_D_skip 38 = .ok (.ireturn, 1) := by decide +kernel
theorem d_D_may_0 : decode b_D_may 0 = .ok (.aload_n 0, 1) := by decide +kernel
theorem d_D_may_1 : decode b_D_may 1 = .ok (.getfield 10, 3) := by decide +kernel
theorem d_D_may_4 : decode b_D_may 4 = .ok (.iload_n 1, 1) := by decide +kernel
theorem d_D_may_5 : decode b_D_may 5 = .ok (.iload_n 2, 1) := by decide +kernel
theorem d_D_may_6 : decode b_D_may 6 = .ok (.iload_n 3, 1) := by decide +kernel
theorem d_D_may_7 : decode b_D_may 7 = .ok (.invokevirtual 41, 3) := by decide +kernel
theorem d_D_may_10 : decode b_D_may 10 = .ok (.ireturn, 1) := by decide +kernel
theorem d_D_look_0 : decode b_D_look 0 = .ok (.iload_n 1, 1) := by decide +kernel
theorem d_D_look_1 : decode b_D_look 1 = .ok (.tableswitch 78 0 4 #[35, 43, 51, 62, 70], 35) := by decide +kernel
theorem d_D_look_36 : decode b_D_look 36 = .ok (.aload_n 0, 1) := by decide +kernel
theorem d_D_look_37 : decode b_D_look 37 = .ok (.getfield 10, 3) := by decide +kernel
theorem d_D_look_40 : decode b_D_look 40 = .ok (.getfield 45, 3) := by decide +kernel
theorem d_D_look_43 : decode b_D_look 43 = .ok (.ireturn, 1) := by decide +kernel
theorem d_D_look_44 : decode b_D_look 44 = .ok (.aload_n 0, 1) := by decide +kernel
theorem d_D_look_45 : decode b_D_look 45 = .ok (.getfield 10, 3) := by decide +kernel
theorem d_D_look_48 : decode b_D_look 48 = .ok (.getfield 49, 3) := by decide +kernel
theorem d_D_look_51 : decode b_D_look 51 = .ok (.ireturn, 1) := by decide +kernel
theorem d_D_look_52 : decode b_D_look 52 = .ok (.aload_n 0, 1) := by decide +kernel
theorem d_D_look_53 : decode b_D_look 53 = .ok (.getfield 10, 3) := by decide +kernel
theorem d_D_look_56 : decode b_D_look 56 = .ok (.invokevirtual 52, 3) := by decide +kernel
theorem d_D_look_59 : decode b_D_look 59 = .ok (.getfield 56, 3) := by decide +kernel
theorem d_D_look_62 : decode b_D_look 62 = .ok (.ireturn, 1) := by decide +kernel
theorem d_D_look_63 : decode b_D_look 63 = .ok (.aload_n 0, 1) := by decide +kernel
theorem d_D_look_64 : decode b_D_look 64 = .ok (.getfield 10, 3) := by decide +kernel
theorem d_D_look_67 : decode b_D_look 67 = .ok (.invokevirtual 61, 3) := by decide +kernel
theorem d_D_look_70 : decode b_D_look 70 = .ok (.ireturn, 1) := by decide +kernel
theorem d_D_look_71 : decode b_D_look 71 = .ok (.aload_n 0, 1) := by decide +kernel
theorem d_D_look_72 : decode b_D_look 72 = .ok (.getfield 10, 3) := by decide +kernel
theorem d_D_look_75 : decode b_D_look 75 = .ok (.invokevirtual 64, 3) := by decide +kernel
theorem d_D_look_78 : decode b_D_look 78 = .ok (.ireturn, 1) := by decide +kernel
theorem d_D_look_79 : decode b_D_look 79 = .ok (.iconst (-1), 1) := by decide +kernel
theorem d_D_look_80 : decode b_D_look 80 = .ok (.ireturn, 1) := by decide +kernel
theorem d_D_move_0 : decode b_D_move 0 = .ok (.aload_n 0, 1) := by decide +kernel
theorem d_D_move_1 : decode b_D_move 1 = .ok (.getfield 21, 3) := by decide +kernel
theorem d_D_move_4 : decode b_D_move 4 = .ok (.iload_n 1, 1) := by decide +kernel
theorem d_D_move_5 : decode b_D_move 5 = .ok (.invokevirtual 67, 3) := by decide +kernel
theorem d_D_move_8 : decode b_D_move 8 = .ok (.ifCond .eq 15, 3) := by decide +kernel
theorem d_D_move_11 : decode b_D_move 11 = .ok (.aload_n 0, 1) := by decide +kernel
theorem d_D_move_12 : decode b_D_move 12 = .ok (.getfield 21, 3) := by decide +kernel
theorem d_D_move_15 : decode b_D_move 15 = .ok (.iload_n 1, 1) := by decide +kernel
theorem d_D_move_16 : decode b_D_move 16 = .ok (.lload_n 2, 1) := by decide +kernel
theorem d_D_move_17 : decode b_D_move 17 = .ok (.invokevirtual 71, 3) := by decide +kernel
theorem d_D_move_20 : decode b_D_move 20 = .ok (.ifCond .ne 5, 3) := by decide +kernel
theorem d_D_move_23 : decode b_D_move 23 = .ok (.iconst (-1), 1) := by decide +kernel
theorem d_D_move_24 : decode b_D_move 24 = .ok (.ireturn, 1) := by decide +kernel
theorem d_D_move_25 : decode b_D_move 25 = .ok (.aload_n 0, 1) := by decide +kernel
theorem d_D_move_26 : decode b_D_move 26 = .ok (.getfield 21, 3) := by decide +kernel
theorem d_D_move_29 : decode b_D_move 29 = .ok (.iload_n 1, 1) := by decide +kernel
theorem d_D_move_30 : decode b_D_move 30 = .ok (.lload_n 2, 1) := by decide +kernel
theorem d_D_move_31 : decode b_D_move 31 = .ok (.invokevirtual 75, 3) := by decide +kernel
theorem d_D_move_34 : decode b_D_move 34 = .ok (.lload_n 2, 1) := by decide +kernel
theorem d_D_move_35 : decode b_D_move 35 = .ok (.lconst 0, 1) := by decide +kernel
theorem d_D_move_36 : decode b_D_move 36 = .ok (.lcmp, 1) := by decide +kernel
theorem d_D_move_37 : decode b_D_move 37 = .ok (.ifCond .ne 7, 3) := by decide +kernel
theorem d_D_move_40 : decode b_D_move 40 = .ok (.iconst 0, 1) := by decide +kernel
theorem d_D_move_41 : decode b_D_move 41 = .ok (.goto 4, 3) := by decide +kernel
theorem d_D_move_44 : decode b_D_move 44 = .ok (.iconst 1, 1) := by decide +kernel
theorem d_D_move_45 : decode b_D_move 45 = .ok (.ireturn, 1) := by decide +kernel
theorem d_D_row_0 : decode b_D_row 0 = .ok (.aload_n 0, 1) := by decide +kernel
theorem d_D_row_1 : decode b_D_row 1 = .ok (.getfield 21, 3) := by decide +kernel
theorem d_D_row_4 : decode b_D_row 4 = .ok (.iload_n 1, 1) := by decide +kernel
theorem d_D_row_5 : decode b_D_row 5 = .ok (.invokevirtual 67, 3) := by decide +kernel
theorem d_D_row_8 : decode b_D_row 8 = .ok (.ifCond .eq 15, 3) := by decide +kernel
theorem d_D_row_11 : decode b_D_row 11 = .ok (.aload_n 0, 1) := by decide +kernel
theorem d_D_row_12 : decode b_D_row 12 = .ok (.getfield 21, 3) := by decide +kernel
theorem d_D_row_15 : decode b_D_row 15 = .ok (.iload_n 1, 1) := by decide +kernel
theorem d_D_row_16 : decode b_D_row 16 = .ok (.iload_n 2, 1) := by decide +kernel
theorem d_D_row_17 : decode b_D_row 17 = .ok (.invokevirtual 79, 3) := by decide +kernel
theorem d_D_row_20 : decode b_D_row 20 = .ok (.goto 4, 3) := by decide +kernel
theorem d_D_row_23 : decode b_D_row 23 = .ok (.lconst 0, 1) := by decide +kernel
theorem d_D_row_24 : decode b_D_row 24 = .ok (.lreturn, 1) := by decide +kernel
theorem d_D_isTold_0 : decode b_D_isTold 0 = .ok (.aload_n 0, 1) := by decide +kernel
theorem d_D_isTold_1 : decode b_D_isTold 1 = .ok (.getfield 21, 3) := by decide +kernel
theorem d_D_isTold_4 : decode b_D_isTold 4 = .ok (.iload_n 1, 1) := by decide +kernel
theorem d_D_isTold_5 : decode b_D_isTold 5 = .ok (.invokevirtual 67, 3) := by decide +kernel
theorem d_D_isTold_8 : decode b_D_isTold 8 = .ok (.ifCond .eq 18, 3) := by decide +kernel
theorem d_D_isTold_11 : decode b_D_isTold 11 = .ok (.aload_n 0, 1) := by decide +kernel
theorem d_D_isTold_12 : decode b_D_isTold 12 = .ok (.getfield 21, 3) := by decide +kernel
theorem d_D_isTold_15 : decode b_D_isTold 15 = .ok (.iload_n 1, 1) := by decide +kernel
theorem d_D_isTold_16 : decode b_D_isTold 16 = .ok (.invokevirtual 83, 3) := by decide +kernel
theorem d_D_isTold_19 : decode b_D_isTold 19 = .ok (.ifCond .eq 7, 3) := by decide +kernel
theorem d_D_isTold_22 : decode b_D_isTold 22 = .ok (.iconst 1, 1) := by decide +kernel
theorem d_D_isTold_23 : decode b_D_isTold 23 = .ok (.goto 4, 3) := by decide +kernel
theorem d_D_isTold_26 : decode b_D_isTold 26 = .ok (.iconst 0, 1) := by decide +kernel
theorem d_D_isTold_27 : decode b_D_isTold 27 = .ok (.ireturn, 1) := by decide +kernel
theorem d_D_write_0 : decode b_D_write 0 = .ok (.aload_n 0, 1) := by decide +kernel
theorem d_D_write_1 : decode b_D_write 1 = .ok (.getfield 21, 3) := by decide +kernel
theorem d_D_write_4 : decode b_D_write 4 = .ok (.iload_n 1, 1) := by decide +kernel
theorem d_D_write_5 : decode b_D_write 5 = .ok (.invokevirtual 67, 3) := by decide +kernel
theorem d_D_write_8 : decode b_D_write 8 = .ok (.ifCond .ne 5, 3) := by decide +kernel
theorem d_D_write_11 : decode b_D_write 11 = .ok (.iconst (-1), 1) := by decide +kernel
theorem d_D_write_12 : decode b_D_write 12 = .ok (.ireturn, 1) := by decide +kernel
theorem d_D_write_13 : decode b_D_write 13 = .ok (.aload_n 0, 1) := by decide +kernel
theorem d_D_write_14 : decode b_D_write 14 = .ok (.getfield 28, 3) := by decide +kernel
theorem d_D_write_17 : decode b_D_write 17 = .ok (.iconst 0, 1) := by decide +kernel
theorem d_D_write_18 : decode b_D_write 18 = .ok (.putfield 86, 3) := by decide +kernel
theorem d_D_write_21 : decode b_D_write 21 = .ok (.iconst 0, 1) := by decide +kernel
theorem d_D_write_22 : decode b_D_write 22 = .ok (.istore_n 2, 1) := by decide +kernel
theorem d_D_write_23 : decode b_D_write 23 = .ok (.iload_n 2, 1) := by decide +kernel
theorem d_D_write_24 : decode b_D_write 24 = .ok (.iconst 5, 1) := by decide +kernel
theorem d_D_write_25 : decode b_D_write 25 = .ok (.if_icmp .ge 36, 3) := by decide +kernel
theorem d_D_write_28 : decode b_D_write 28 = .ok (.iload_n 2, 1) := by decide +kernel
theorem d_D_write_29 : decode b_D_write 29 = .ok (.ifCond .le 10, 3) := by decide +kernel
theorem d_D_write_32 : decode b_D_write 32 = .ok (.aload_n 0, 1) := by decide +kernel
theorem d_D_write_33 : decode b_D_write 33 = .ok (.getfield 28, 3) := by decide +kernel
theorem d_D_write_36 : decode b_D_write 36 = .ok (.invokevirtual 89, 3) := by decide +kernel
theorem d_D_write_39 : decode b_D_write 39 = .ok (.aload_n 0, 1) := by decide +kernel
theorem d_D_write_40 : decode b_D_write 40 = .ok (.getfield 28, 3) := by decide +kernel
theorem d_D_write_43 : decode b_D_write 43 = .ok (.aload_n 0, 1) := by decide +kernel
theorem d_D_write_44 : decode b_D_write 44 = .ok (.getfield 21, 3) := by decide +kernel
theorem d_D_write_47 : decode b_D_write 47 = .ok (.iload_n 1, 1) := by decide +kernel
theorem d_D_write_48 : decode b_D_write 48 = .ok (.iload_n 2, 1) := by decide +kernel
theorem d_D_write_49 : decode b_D_write 49 = .ok (.invokevirtual 79, 3) := by decide +kernel
theorem d_D_write_52 : decode b_D_write 52 = .ok (.invokevirtual 92, 3) := by decide +kernel
theorem d_D_write_55 : decode b_D_write 55 = .ok (.iinc 2 1, 3) := by decide +kernel
theorem d_D_write_58 : decode b_D_write 58 = .ok (.goto (-35), 3) := by decide +kernel
theorem d_D_write_61 : decode b_D_write 61 = .ok (.aload_n 0, 1) := by decide +kernel
theorem d_D_write_62 : decode b_D_write 62 = .ok (.getfield 28, 3) := by decide +kernel
theorem d_D_write_65 : decode b_D_write 65 = .ok (.getfield 86, 3) := by decide +kernel
theorem d_D_write_68 : decode b_D_write 68 = .ok (.ireturn, 1) := by decide +kernel
theorem d_D_at_0 : decode b_D_at 0 = .ok (.iload_n 1, 1) := by decide +kernel
theorem d_D_at_1 : decode b_D_at 1 = .ok (.ifCond .lt 26, 3) := by decide +kernel
theorem d_D_at_4 : decode b_D_at 4 = .ok (.iload_n 1, 1) := by decide +kernel
theorem d_D_at_5 : decode b_D_at 5 = .ok (.aload_n 0, 1) := by decide +kernel
theorem d_D_at_6 : decode b_D_at 6 = .ok (.getfield 28, 3) := by decide +kernel
theorem d_D_at_9 : decode b_D_at 9 = .ok (.getfield 86, 3) := by decide +kernel
theorem d_D_at_12 : decode b_D_at 12 = .ok (.if_icmp .ge 15, 3) := by decide +kernel
theorem d_D_at_15 : decode b_D_at 15 = .ok (.aload_n 0, 1) := by decide +kernel
theorem d_D_at_16 : decode b_D_at 16 = .ok (.getfield 28, 3) := by decide +kernel
theorem d_D_at_19 : decode b_D_at 19 = .ok (.getfield 96, 3) := by decide +kernel
theorem d_D_at_22 : decode b_D_at 22 = .ok (.iload_n 1, 1) := by decide +kernel
theorem d_D_at_23 : decode b_D_at 23 = .ok (.baload, 1) := by decide +kernel
theorem d_D_at_24 : decode b_D_at 24 = .ok (.goto 4, 3) := by decide +kernel
theorem d_D_at_27 : decode b_D_at 27 = .ok (.iconst (-1), 1) := by decide +kernel
theorem d_D_at_28 : decode b_D_at 28 = .ok (.ireturn, 1) := by decide +kernel
theorem d_C_init_0 : decode b_C_init 0 = .ok (.aload_n 0, 1) := by decide +kernel
theorem d_C_init_1 : decode b_C_init 1 = .ok (.invokespecial 1, 3) := by decide +kernel
theorem d_C_init_4 : decode b_C_init 4 = .ok (.aload_n 0, 1) := by decide +kernel
theorem d_C_init_5 : decode b_C_init 5 = .ok (.invokestatic 7, 3) := by decide +kernel
theorem d_C_init_8 : decode b_C_init 8 = .ok (.putfield 13, 3) := by decide +kernel
theorem d_C_init_11 : decode b_C_init 11 = .ok (.return_, 1) := by decide +kernel
theorem d_C_phase_0 : decode b_C_phase 0 = .ok (.aload_n 0, 1) := by decide +kernel
theorem d_C_phase_1 : decode b_C_phase 1 = .ok (.getfield 13, 3) := by decide +kernel
theorem d_C_phase_4 : decode b_C_phase 4 = .ok (.arraylength, 1) := by decide +kernel
theorem d_C_phase_5 : decode b_C_phase 5 = .ok (.iconst 1, 1) := by decide +kernel
theorem d_C_phase_6 : decode b_C_phase 6 = .ok (.isub, 1) := by decide +kernel
theorem d_C_phase_7 : decode b_C_phase 7 = .ok (.istore_n 1, 1) := by decide +kernel
theorem d_C_phase_8 : decode b_C_phase 8 = .ok (.aload_n 0, 1) := by decide +kernel
theorem d_C_phase_9 : decode b_C_phase 9 = .ok (.getfield 13, 3) := by decide +kernel
theorem d_C_phase_12 : decode b_C_phase 12 = .ok (.iload_n 1, 1) := by decide +kernel
theorem d_C_phase_13 : decode b_C_phase 13 = .ok (.aaload, 1) := by decide +kernel
theorem d_C_phase_14 : decode b_C_phase 14 = .ok (.getfield 19, 3) := by decide +kernel
theorem d_C_phase_17 : decode b_C_phase 17 = .ok (.aload_n 0, 1) := by decide +kernel
theorem d_C_phase_18 : decode b_C_phase 18 = .ok (.getfield 23, 3) := by decide +kernel
theorem d_C_phase_21 : decode b_C_phase 21 = .ok (.if_icmp .le 9, 3) := by decide +kernel
theorem d_C_phase_24 : decode b_C_phase 24 = .ok (.iinc 1 (-1), 3) := by decide +kernel
theorem d_C_phase_27 : decode b_C_phase 27 = .ok (.goto (-19), 3) := by decide +kernel
theorem d_C_phase_30 : decode b_C_phase 30 = .ok (.aload_n 0, 1) := by decide +kernel
theorem d_C_phase_31 : decode b_C_phase 31 = .ok (.getfield 13, 3) := by decide +kernel
theorem d_C_phase_34 : decode b_C_phase 34 = .ok (.iload_n 1, 1) := by decide +kernel
theorem d_C_phase_35 : decode b_C_phase 35 = .ok (.aaload, 1) := by decide +kernel
theorem d_C_phase_36 : decode b_C_phase 36 = .ok (.areturn, 1) := by decide +kernel
theorem d_C_isResolved_0 : decode b_C_isResolved 0 = .ok (.iload_n 0, 1) := by decide +kernel
theorem d_C_isResolved_1 : decode b_C_isResolved 1 = .ok (.sipush 150, 3) := by decide +kernel
theorem d_C_isResolved_4 : decode b_C_isResolved 4 = .ok (.if_icmp .lt 21, 3) := by decide +kernel
theorem d_C_isResolved_7 : decode b_C_isResolved 7 = .ok (.iload_n 0, 1) := by decide +kernel
theorem d_C_isResolved_8 : decode b_C_isResolved 8 = .ok (.sipush 900, 3) := by decide +kernel
theorem d_C_isResolved_11 : decode b_C_isResolved 11 = .ok (.if_icmp .gt 14, 3) := by decide +kernel
theorem d_C_isResolved_14 : decode b_C_isResolved 14 = .ok (.iload_n 0, 1) := by decide +kernel
theorem d_C_isResolved_15 : decode b_C_isResolved 15 = .ok (.bipush 50, 2) := by decide +kernel
theorem d_C_isResolved_17 : decode b_C_isResolved 17 = .ok (.irem, 1) := by decide +kernel
theorem d_C_isResolved_18 : decode b_C_isResolved 18 = .ok (.ifCond .ne 7, 3) := by decide +kernel
theorem d_C_isResolved_21 : decode b_C_isResolved 21 = .ok (.iconst 1, 1) := by decide +kernel
theorem d_C_isResolved_22 : decode b_C_isResolved 22 = .ok (.goto 4, 3) := by decide +kernel
theorem d_C_isResolved_25 : decode b_C_isResolved 25 = .ok (.iconst 0, 1) := by decide +kernel
theorem d_C_isResolved_26 : decode b_C_isResolved 26 = .ok (.ireturn, 1) := by decide +kernel
theorem d_C_pass_0 : decode b_C_pass 0 = .ok (.aload_n 0, 1) := by decide +kernel
theorem d_C_pass_1 : decode b_C_pass 1 = .ok (.dup, 1) := by decide +kernel
theorem d_C_pass_2 : decode b_C_pass 2 = .ok (.getfield 23, 3) := by decide +kernel
theorem d_C_pass_5 : decode b_C_pass 5 = .ok (.iconst 1, 1) := by decide +kernel
theorem d_C_pass_6 : decode b_C_pass 6 = .ok (.iadd, 1) := by decide +kernel
theorem d_C_pass_7 : decode b_C_pass 7 = .ok (.putfield 23, 3) := by decide +kernel
theorem d_C_pass_10 : decode b_C_pass 10 = .ok (.aload_n 0, 1) := by decide +kernel
theorem d_C_pass_11 : decode b_C_pass 11 = .ok (.getfield 23, 3) := by decide +kernel
theorem d_C_pass_14 : decode b_C_pass 14 = .ok (.sipush 1000, 3) := by decide +kernel
theorem d_C_pass_17 : decode b_C_pass 17 = .ok (.if_icmp .ne 18, 3) := by decide +kernel
theorem d_C_pass_20 : decode b_C_pass 20 = .ok (.aload_n 0, 1) := by decide +kernel
theorem d_C_pass_21 : decode b_C_pass 21 = .ok (.iconst 0, 1) := by decide +kernel
theorem d_C_pass_22 : decode b_C_pass 22 = .ok (.putfield 23, 3) := by decide +kernel
theorem d_C_pass_25 : decode b_C_pass 25 = .ok (.aload_n 0, 1) := by decide +kernel
theorem d_C_pass_26 : decode b_C_pass 26 = .ok (.dup, 1) := by decide +kernel
theorem d_C_pass_27 : decode b_C_pass 27 = .ok (.getfield 26, 3) := by decide +kernel
theorem d_C_pass_30 : decode b_C_pass 30 = .ok (.iconst 1, 1) := by decide +kernel
theorem d_C_pass_31 : decode b_C_pass 31 = .ok (.iadd, 1) := by decide +kernel
theorem d_C_pass_32 : decode b_C_pass 32 = .ok (.putfield 26, 3) := by decide +kernel
theorem d_C_pass_35 : decode b_C_pass 35 = .ok (.aload_n 0, 1) := by decide +kernel
theorem d_C_pass_36 : decode b_C_pass 36 = .ok (.getfield 23, 3) := by decide +kernel
theorem d_C_pass_39 : decode b_C_pass 39 = .ok (.invokestatic 29, 3) := by decide +kernel
theorem d_C_pass_42 : decode b_C_pass 42 = .ok (.ifCond .eq 7, 3) := by decide +kernel
theorem d_C_pass_45 : decode b_C_pass 45 = .ok (.iconst 1, 1) := by decide +kernel
theorem d_C_pass_46 : decode b_C_pass 46 = .ok (.goto 4, 3) := by decide +kernel
theorem d_C_pass_49 : decode b_C_pass 49 = .ok (.iconst 0, 1) := by decide +kernel
theorem d_C_pass_50 : decode b_C_pass 50 = .ok (.aload_n 0, 1) := by decide +kernel
theorem d_C_pass_51 : decode b_C_pass 51 = .ok (.getfield 23, 3) := by decide +kernel
theorem d_C_pass_54 : decode b_C_pass 54 = .ok (.sipush 900, 3) := by decide +kernel
theorem d_C_pass_57 : decode b_C_pass 57 = .ok (.if_icmp .ne 7, 3) := by decide +kernel
theorem d_C_pass_60 : decode b_C_pass 60 = .ok (.iconst 2, 1) := by decide +kernel
theorem d_C_pass_61 : decode b_C_pass 61 = .ok (.goto 4, 3) := by decide +kernel
theorem d_C_pass_64 : decode b_C_pass 64 = .ok (.iconst 0, 1) := by decide +kernel
theorem d_C_pass_65 : decode b_C_pass 65 = .ok (.iadd, 1) := by decide +kernel
theorem d_C_pass_66 : decode b_C_pass 66 = .ok (.aload_n 0, 1) := by decide +kernel
theorem d_C_pass_67 : decode b_C_pass 67 = .ok (.getfield 23, 3) := by decide +kernel
theorem d_C_pass_70 : decode b_C_pass 70 = .ok (.ifCond .ne 7, 3) := by decide +kernel
theorem d_C_pass_73 : decode b_C_pass 73 = .ok (.iconst 4, 1) := by decide +kernel
theorem d_C_pass_74 : decode b_C_pass 74 = .ok (.goto 4, 3) := by decide +kernel
theorem d_C_pass_77 : decode b_C_pass 77 = .ok (.iconst 0, 1) := by decide +kernel
theorem d_C_pass_78 : decode b_C_pass 78 = .ok (.iadd, 1) := by decide +kernel
theorem d_C_pass_79 : decode b_C_pass 79 = .ok (.ireturn, 1) := by decide +kernel
theorem d_C_may_0 : decode b_C_may 0 = .ok (.aload_n 0, 1) := by decide +kernel
theorem d_C_may_1 : decode b_C_may 1 = .ok (.invokevirtual 33, 3) := by decide +kernel
theorem d_C_may_4 : decode b_C_may 4 = .ok (.astore 4, 2) := by decide +kernel
theorem d_C_may_6 : decode b_C_may 6 = .ok (.iload_n 1, 1) := by decide +kernel
theorem d_C_may_7 : decode b_C_may 7 = .ok (.ifCond .lt 18, 3) := by decide +kernel
theorem d_C_may_10 : decode b_C_may 10 = .ok (.iload_n 1, 1) := by decide +kernel
theorem d_C_may_11 : decode b_C_may 11 = .ok (.bipush 15, 2) := by decide +kernel
theorem d_C_may_13 : decode b_C_may 13 = .ok (.if_icmp .ge 12, 3) := by decide +kernel
theorem d_C_may_16 : decode b_C_may 16 = .ok (.aload 4, 2) := by decide +kernel
theorem d_C_may_18 : decode b_C_may 18 = .ok (.iload_n 1, 1) := by decide +kernel
theorem d_C_may_19 : decode b_C_may 19 = .ok (.invokevirtual 37, 3) := by decide +kernel
theorem d_C_may_22 : decode b_C_may 22 = .ok (.ifCond .eq 5, 3) := by decide +kernel
theorem d_C_may_25 : decode b_C_may 25 = .ok (.iconst 0, 1) := by decide +kernel
theorem d_C_may_26 : decode b_C_may 26 = .ok (.ireturn, 1) := by decide +kernel
theorem d_C_may_27 : decode b_C_may 27 = .ok (.iload_n 1, 1) := by decide +kernel
theorem d_C_may_28 : decode b_C_may 28 = .ok (.iconst 5, 1) := by decide +kernel
theorem d_C_may_29 : decode b_C_may 29 = .ok (.if_icmp .ne 39, 3) := by decide +kernel
theorem d_C_may_32 : decode b_C_may 32 = .ok (.aload 4, 2) := by decide +kernel
theorem d_C_may_34 : decode b_C_may 34 = .ok (.getstatic 40, 3) := by decide +kernel
theorem d_C_may_37 : decode b_C_may 37 = .ok (.if_acmp .eq 11, 3) := by decide +kernel
theorem d_C_may_40 : decode b_C_may 40 = .ok (.aload 4, 2) := by decide +kernel
theorem d_C_may_42 : decode b_C_may 42 = .ok (.getstatic 44, 3) := by decide +kernel
theorem d_C_may_45 : decode b_C_may 45 = .ok (.if_acmp .ne 23, 3) := by decide +kernel
theorem d_C_may_48 : decode b_C_may 48 = .ok (.aload 4, 2) := by decide +kernel
theorem d_C_may_50 : decode b_C_may 50 = .ok (.getstatic 40, 3) := by decide +kernel
theorem d_C_may_53 : decode b_C_may 53 = .ok (.if_acmp .ne 11, 3) := by decide +kernel
theorem d_C_may_56 : decode b_C_may 56 = .ok (.iload_n 2, 1) := by decide +kernel
theorem d_C_may_57 : decode b_C_may 57 = .ok (.iconst 4, 1) := by decide +kernel
theorem d_C_may_58 : decode b_C_may 58 = .ok (.if_icmp .gt 14, 3) := by decide +kernel
theorem d_C_may_61 : decode b_C_may 61 = .ok (.goto 7, 3) := by decide +kernel
theorem d_C_may_64 : decode b_C_may 64 = .ok (.iload_n 3, 1) := by decide +kernel
theorem d_C_may_65 : decode b_C_may 65 = .ok (.ifCond .eq 7, 3) := by decide +kernel
theorem d_C_may_68 : decode b_C_may 68 = .ok (.iconst 1, 1) := by decide +kernel
theorem d_C_may_69 : decode b_C_may 69 = .ok (.goto 4, 3) := by decide +kernel
theorem d_C_may_72 : decode b_C_may 72 = .ok (.iconst 0, 1) := by decide +kernel
theorem d_C_may_73 : decode b_C_may 73 = .ok (.ireturn, 1) := by decide +kernel
theorem d_C_tillResolved_0 : decode b_C_tillResolved 0 = .ok (.iconst 1, 1) := by decide +kernel
theorem d_C_tillResolved_1 : decode b_C_tillResolved 1 = .ok (.istore_n 1, 1) := by decide +kernel
theorem d_C_tillResolved_2 : decode b_C_tillResolved 2 = .ok (.aload_n 0, 1) := by decide +kernel
theorem d_C_tillResolved_3 : decode b_C_tillResolved 3 = .ok (.getfield 23, 3) := by decide +kernel
theorem d_C_tillResolved_6 : decode b_C_tillResolved 6 = .ok (.iload_n 1, 1) := by decide +kernel
theorem d_C_tillResolved_7 : decode b_C_tillResolved 7 = .ok (.iadd, 1) := by decide +kernel
theorem d_C_tillResolved_8 : decode b_C_tillResolved 8 = .ok (.sipush 1000, 3) := by decide +kernel
theorem d_C_tillResolved_11 : decode b_C_tillResolved 11 = .ok (.irem, 1) := by decide +kernel
theorem d_C_tillResolved_12 : decode b_C_tillResolved 12 = .ok (.invokestatic 29, 3) := by decide +kernel
theorem d_C_tillResolved_15 : decode b_C_tillResolved 15 = .ok (.ifCond .ne 9, 3) := by decide +kernel
theorem d_C_tillResolved_18 : decode b_C_tillResolved 18 = .ok (.iinc 1 1, 3) := by decide +kernel
theorem d_C_tillResolved_21 : decode b_C_tillResolved 21 = .ok (.goto (-19), 3) := by decide +kernel
theorem d_C_tillResolved_24 : decode b_C_tillResolved 24 = .ok (.iload_n 1, 1) := by decide +kernel
theorem d_C_tillResolved_25 : decode b_C_tillResolved 25 = .ok (.ireturn, 1) := by decide +kernel
theorem d_C_tillPhase_0 : decode b_C_tillPhase 0 = .ok (.aload_n 0, 1) := by decide +kernel
theorem d_C_tillPhase_1 : decode b_C_tillPhase 1 = .ok (.invokevirtual 33, 3) := by decide +kernel
theorem d_C_tillPhase_4 : decode b_C_tillPhase 4 = .ok (.getfield 47, 3) := by decide +kernel
theorem d_C_tillPhase_7 : decode b_C_tillPhase 7 = .ok (.istore_n 1, 1) := by decide +kernel
theorem d_C_tillPhase_8 : decode b_C_tillPhase 8 = .ok (.iload_n 1, 1) := by decide +kernel
theorem d_C_tillPhase_9 : decode b_C_tillPhase 9 = .ok (.iconst 1, 1) := by decide +kernel
theorem d_C_tillPhase_10 : decode b_C_tillPhase 10 = .ok (.iadd, 1) := by decide +kernel
theorem d_C_tillPhase_11 : decode b_C_tillPhase 11 = .ok (.aload_n 0, 1) := by decide +kernel
theorem d_C_tillPhase_12 : decode b_C_tillPhase 12 = .ok (.getfield 13, 3) := by decide +kernel
theorem d_C_tillPhase_15 : decode b_C_tillPhase 15 = .ok (.arraylength, 1) := by decide +kernel
theorem d_C_tillPhase_16 : decode b_C_tillPhase 16 = .ok (.if_icmp .ge 17, 3) := by decide +kernel
theorem d_C_tillPhase_19 : decode b_C_tillPhase 19 = .ok (.aload_n 0, 1) := by decide +kernel
theorem d_C_tillPhase_20 : decode b_C_tillPhase 20 = .ok (.getfield 13, 3) := by decide +kernel
theorem d_C_tillPhase_23 : decode b_C_tillPhase 23 = .ok (.iload_n 1, 1) := by decide +kernel
theorem d_C_tillPhase_24 : decode b_C_tillPhase 24 = .ok (.iconst 1, 1) := by decide +kernel
theorem d_C_tillPhase_25 : decode b_C_tillPhase 25 = .ok (.iadd, 1) := by decide +kernel
theorem d_C_tillPhase_26 : decode b_C_tillPhase 26 = .ok (.aaload, 1) := by decide +kernel
theorem d_C_tillPhase_27 : decode b_C_tillPhase 27 = .ok (.getfield 19, 3) := by decide +kernel
theorem d_C_tillPhase_30 : decode b_C_tillPhase 30 = .ok (.goto 6, 3) := by decide +kernel
theorem d_C_tillPhase_33 : decode b_C_tillPhase 33 = .ok (.sipush 1000, 3) := by decide +kernel
theorem d_C_tillPhase_36 : decode b_C_tillPhase 36 = .ok (.aload_n 0, 1) := by decide +kernel
theorem d_C_tillPhase_37 : decode b_C_tillPhase 37 = .ok (.getfield 23, 3) := by decide +kernel
theorem d_C_tillPhase_40 : decode b_C_tillPhase 40 = .ok (.isub, 1) := by decide +kernel
theorem d_C_tillPhase_41 : decode b_C_tillPhase 41 = .ok (.ireturn, 1) := by decide +kernel
theorem d_W_init_0 : decode b_W_init 0 = .ok (.aload_n 0, 1) := by decide +kernel
theorem d_W_init_1 : decode b_W_init 1 = .ok (.invokespecial 1, 3) := by decide +kernel
theorem d_W_init_4 : decode b_W_init 4 = .ok (.aload_n 0, 1) := by decide +kernel
theorem d_W_init_5 : decode b_W_init 5 = .ok (.bipush 120, 2) := by decide +kernel
theorem d_W_init_7 : decode b_W_init 7 = .ok (.newarray .byte, 2) := by decide +kernel
theorem d_W_init_9 : decode b_W_init 9 = .ok (.putfield 9, 3) := by decide +kernel
theorem d_W_init_12 : decode b_W_init 12 = .ok (.aload_n 0, 1) := by decide +kernel
theorem d_W_init_13 : decode b_W_init 13 = .ok (.bipush 20, 2) := by decide +kernel
theorem d_W_init_15 : decode b_W_init 15 = .ok (.newarray .byte, 2) := by decide +kernel
theorem d_W_init_17 : decode b_W_init 17 = .ok (.putfield 13, 3) := by decide +kernel
theorem d_W_init_20 : decode b_W_init 20 = .ok (.return_, 1) := by decide +kernel
theorem d_W_blank_0 : decode b_W_blank 0 = .ok (.aload_n 0, 1) := by decide +kernel
theorem d_W_blank_1 : decode b_W_blank 1 = .ok (.getfield 9, 3) := by decide +kernel
theorem d_W_blank_4 : decode b_W_blank 4 = .ok (.aload_n 0, 1) := by decide +kernel
theorem d_W_blank_5 : decode b_W_blank 5 = .ok (.getfield 16, 3) := by decide +kernel
theorem d_W_blank_8 : decode b_W_blank 8 = .ok (.bipush 32, 2) := by decide +kernel
theorem d_W_blank_10 : decode b_W_blank 10 = .ok (.bastore, 1) := by decide +kernel
theorem d_W_blank_11 : decode b_W_blank 11 = .ok (.aload_n 0, 1) := by decide +kernel
theorem d_W_blank_12 : decode b_W_blank 12 = .ok (.dup, 1) := by decide +kernel
theorem d_W_blank_13 : decode b_W_blank 13 = .ok (.getfield 16, 3) := by decide +kernel
theorem d_W_blank_16 : decode b_W_blank 16 = .ok (.iconst 1, 1) := by decide +kernel
theorem d_W_blank_17 : decode b_W_blank 17 = .ok (.iadd, 1) := by decide +kernel
theorem d_W_blank_18 : decode b_W_blank 18 = .ok (.putfield 16, 3) := by decide +kernel
theorem d_W_blank_21 : decode b_W_blank 21 = .ok (.return_, 1) := by decide +kernel
theorem d_W_write_0 : decode b_W_write 0 = .ok (.lload_n 1, 1) := by decide +kernel
theorem d_W_write_1 : decode b_W_write 1 = .ok (.lconst 0, 1) := by decide +kernel
theorem d_W_write_2 : decode b_W_write 2 = .ok (.lcmp, 1) := by decide +kernel
theorem d_W_write_3 : decode b_W_write 3 = .ok (.ifCond .ge 24, 3) := by decide +kernel
theorem d_W_write_6 : decode b_W_write 6 = .ok (.aload_n 0, 1) := by decide +kernel
theorem d_W_write_7 : decode b_W_write 7 = .ok (.getfield 9, 3) := by decide +kernel
theorem d_W_write_10 : decode b_W_write 10 = .ok (.aload_n 0, 1) := by decide +kernel
theorem d_W_write_11 : decode b_W_write 11 = .ok (.getfield 16, 3) := by decide +kernel
theorem d_W_write_14 : decode b_W_write 14 = .ok (.bipush 45, 2) := by decide +kernel
theorem d_W_write_16 : decode b_W_write 16 = .ok (.bastore, 1) := by decide +kernel
theorem d_W_write_17 : decode b_W_write 17 = .ok (.aload_n 0, 1) := by decide +kernel
theorem d_W_write_18 : decode b_W_write 18 = .ok (.dup, 1) := by decide +kernel
theorem d_W_write_19 : decode b_W_write 19 = .ok (.getfield 16, 3) := by decide +kernel
theorem d_W_write_22 : decode b_W_write 22 = .ok (.iconst 1, 1) := by decide +kernel
theorem d_W_write_23 : decode b_W_write 23 = .ok (.iadd, 1) := by decide +kernel
theorem d_W_write_24 : decode b_W_write 24 = .ok (.putfield 16, 3) := by decide +kernel
theorem d_W_write_27 : decode b_W_write 27 = .ok (.iconst 0, 1) := by decide +kernel
theorem d_W_write_28 : decode b_W_write 28 = .ok (.istore_n 3, 1) := by decide +kernel
theorem d_W_write_29 : decode b_W_write 29 = .ok (.lload_n 1, 1) := by decide +kernel
theorem d_W_write_30 : decode b_W_write 30 = .ok (.lstore 4, 2) := by decide +kernel
theorem d_W_write_32 : decode b_W_write 32 = .ok (.lload 4, 2) := by decide +kernel
theorem d_W_write_34 : decode b_W_write 34 = .ok (.ldc2_w 20, 3) := by decide +kernel
theorem d_W_write_37 : decode b_W_write 37 = .ok (.lrem, 1) := by decide +kernel
theorem d_W_write_38 : decode b_W_write 38 = .ok (.l2i, 1) := by decide +kernel
theorem d_W_write_39 : decode b_W_write 39 = .ok (.istore 6, 2) := by decide +kernel
theorem d_W_write_41 : decode b_W_write 41 = .ok (.aload_n 0, 1) := by decide +kernel
theorem d_W_write_42 : decode b_W_write 42 = .ok (.getfield 13, 3) := by decide +kernel
theorem d_W_write_45 : decode b_W_write 45 = .ok (.iload_n 3, 1) := by decide +kernel
theorem d_W_write_46 : decode b_W_write 46 = .ok (.bipush 48, 2) := by decide +kernel
theorem d_W_write_48 : decode b_W_write 48 = .ok (.iload 6, 2) := by decide +kernel
theorem d_W_write_50 : decode b_W_write 50 = .ok (.ifCond .ge 9, 3) := by decide +kernel
theorem d_W_write_53 : decode b_W_write 53 = .ok (.iload 6, 2) := by decide +kernel
theorem d_W_write_55 : decode b_W_write 55 = .ok (.ineg, 1) := by decide +kernel
theorem d_W_write_56 : decode b_W_write 56 = .ok (.goto 5, 3) := by decide +kernel
theorem d_W_write_59 : decode b_W_write 59 = .ok (.iload 6, 2) := by decide +kernel
theorem d_W_write_61 : decode b_W_write 61 = .ok (.iadd, 1) := by decide +kernel
theorem d_W_write_62 : decode b_W_write 62 = .ok (.i2b, 1) := by decide +kernel
theorem d_W_write_63 : decode b_W_write 63 = .ok (.bastore, 1) := by decide +kernel
theorem d_W_write_64 : decode b_W_write 64 = .ok (.iinc 3 1, 3) := by decide +kernel
theorem d_W_write_67 : decode b_W_write 67 = .ok (.lload 4, 2) := by decide +kernel
theorem d_W_write_69 : decode b_W_write 69 = .ok (.ldc2_w 20, 3) := by decide +kernel
theorem d_W_write_72 : decode b_W_write 72 = .ok (.ldiv, 1) := by decide +kernel
theorem d_W_write_73 : decode b_W_write 73 = .ok (.lstore 4, 2) := by decide +kernel
theorem d_W_write_75 : decode b_W_write 75 = .ok (.lload 4, 2) := by decide +kernel
theorem d_W_write_77 : decode b_W_write 77 = .ok (.lconst 0, 1) := by decide +kernel
theorem d_W_write_78 : decode b_W_write 78 = .ok (.lcmp, 1) := by decide +kernel
theorem d_W_write_79 : decode b_W_write 79 = .ok (.ifCond .eq 9, 3) := by decide +kernel
theorem d_W_write_82 : decode b_W_write 82 = .ok (.iload_n 3, 1) := by decide +kernel
theorem d_W_write_83 : decode b_W_write 83 = .ok (.bipush 20, 2) := by decide +kernel
theorem d_W_write_85 : decode b_W_write 85 = .ok (.if_icmp .lt (-53), 3) := by decide +kernel
theorem d_W_write_88 : decode b_W_write 88 = .ok (.iload_n 3, 1) := by decide +kernel
theorem d_W_write_89 : decode b_W_write 89 = .ok (.iconst 1, 1) := by decide +kernel
theorem d_W_write_90 : decode b_W_write 90 = .ok (.isub, 1) := by decide +kernel
theorem d_W_write_91 : decode b_W_write 91 = .ok (.istore 6, 2) := by decide +kernel
theorem d_W_write_93 : decode b_W_write 93 = .ok (.iload 6, 2) := by decide +kernel
theorem d_W_write_95 : decode b_W_write 95 = .ok (.ifCond .lt 35, 3) := by decide +kernel
theorem d_W_write_98 : decode b_W_write 98 = .ok (.aload_n 0, 1) := by decide +kernel
theorem d_W_write_99 : decode b_W_write 99 = .ok (.getfield 9, 3) := by decide +kernel
theorem d_W_write_102 : decode b_W_write 102 = .ok (.aload_n 0, 1) := by decide +kernel
theorem d_W_write_103 : decode b_W_write 103 = .ok (.getfield 16, 3) := by decide +kernel
theorem d_W_write_106 : decode b_W_write 106 = .ok (.aload_n 0, 1) := by decide +kernel
theorem d_W_write_107 : decode b_W_write 107 = .ok (.getfield 13, 3) := by decide +kernel
theorem d_W_write_110 : decode b_W_write 110 = .ok (.iload 6, 2) := by decide +kernel
theorem d_W_write_112 : decode b_W_write 112 = .ok (.baload, 1) := by decide +kernel
theorem d_W_write_113 : decode b_W_write 113 = .ok (.bastore, 1) := by decide +kernel
theorem d_W_write_114 : decode b_W_write 114 = .ok (.aload_n 0, 1) := by decide +kernel
theorem d_W_write_115 : decode b_W_write 115 = .ok (.dup, 1) := by decide +kernel
theorem d_W_write_116 : decode b_W_write 116 = .ok (.getfield 16, 3) := by decide +kernel
theorem d_W_write_119 : decode b_W_write 119 = .ok (.iconst 1, 1) := by decide +kernel
theorem d_W_write_120 : decode b_W_write 120 = .ok (.iadd, 1) := by decide +kernel
theorem d_W_write_121 : decode b_W_write 121 = .ok (.putfield 16, 3) := by decide +kernel
theorem d_W_write_124 : decode b_W_write 124 = .ok (.iinc 6 (-1), 3) := by decide +kernel
theorem d_W_write_127 : decode b_W_write 127 = .ok (.goto (-34), 3) := by decide +kernel
theorem d_W_write_130 : decode b_W_write 130 = .ok (.return_, 1) := by decide +kernel
theorem d_P_values_0 : decode b_P_values 0 = .ok (.getstatic 19, 3) := by decide +kernel
theorem d_P_values_3 : decode b_P_values 3 = .ok (.invokevirtual 23, 3) := by decide +kernel
theorem d_P_values_6 : decode b_P_values 6 = .ok (.checkcast 24, 3) := by decide +kernel
theorem d_P_values_9 : decode b_P_values 9 = .ok (.areturn, 1) := by decide +kernel
theorem d_P_bars_0 : decode b_P_bars 0 = .ok (.aload_n 0, 1) := by decide +kernel
theorem d_P_bars_1 : decode b_P_bars 1 = .ok (.getfield 45, 3) := by decide +kernel
theorem d_P_bars_4 : decode b_P_bars 4 = .ok (.iload_n 1, 1) := by decide +kernel
theorem d_P_bars_5 : decode b_P_bars 5 = .ok (.ishr, 1) := by decide +kernel
theorem d_P_bars_6 : decode b_P_bars 6 = .ok (.iconst 1, 1) := by decide +kernel
theorem d_P_bars_7 : decode b_P_bars 7 = .ok (.iand, 1) := by decide +kernel
theorem d_P_bars_8 : decode b_P_bars 8 = .ok (.iconst 1, 1) := by decide +kernel
theorem d_P_bars_9 : decode b_P_bars 9 = .ok (.if_icmp .ne 7, 3) := by decide +kernel
theorem d_P_bars_12 : decode b_P_bars 12 = .ok (.iconst 1, 1) := by decide +kernel
theorem d_P_bars_13 : decode b_P_bars 13 = .ok (.goto 4, 3) := by decide +kernel
theorem d_P_bars_16 : decode b_P_bars 16 = .ok (.iconst 0, 1) := by decide +kernel
theorem d_P_bars_17 : decode b_P_bars 17 = .ok (.ireturn, 1) := by decide +kernel
theorem d_S_init_0 : decode b_S_init 0 = .ok (.aload_n 0, 1) := by decide +kernel
theorem d_S_init_1 : decode b_S_init 1 = .ok (.invokespecial 1, 3) := by decide +kernel
theorem d_S_init_4 : decode b_S_init 4 = .ok (.aload_n 0, 1) := by decide +kernel
theorem d_S_init_5 : decode b_S_init 5 = .ok (.iload_n 1, 1) := by decide +kernel
theorem d_S_init_6 : decode b_S_init 6 = .ok (.newarray .long, 2) := by decide +kernel
theorem d_S_init_8 : decode b_S_init 8 = .ok (.putfield 7, 3) := by decide +kernel
theorem d_S_init_11 : decode b_S_init 11 = .ok (.aload_n 0, 1) := by decide +kernel
theorem d_S_init_12 : decode b_S_init 12 = .ok (.iload_n 1, 1) := by decide +kernel
theorem d_S_init_13 : decode b_S_init 13 = .ok (.newarray .long, 2) := by decide +kernel
theorem d_S_init_15 : decode b_S_init 15 = .ok (.putfield 13, 3) := by decide +kernel
theorem d_S_init_18 : decode b_S_init 18 = .ok (.aload_n 0, 1) := by decide +kernel
theorem d_S_init_19 : decode b_S_init 19 = .ok (.iload_n 1, 1) := by decide +kernel
theorem d_S_init_20 : decode b_S_init 20 = .ok (.newarray .long, 2) := by decide +kernel
theorem d_S_init_22 : decode b_S_init 22 = .ok (.putfield 16, 3) := by decide +kernel
theorem d_S_init_25 : decode b_S_init 25 = .ok (.aload_n 0, 1) := by decide +kernel
theorem d_S_init_26 : decode b_S_init 26 = .ok (.iload_n 1, 1) := by decide +kernel
theorem d_S_init_27 : decode b_S_init 27 = .ok (.newarray .long, 2) := by decide +kernel
theorem d_S_init_29 : decode b_S_init 29 = .ok (.putfield 19, 3) := by decide +kernel
theorem d_S_init_32 : decode b_S_init 32 = .ok (.aload_n 0, 1) := by decide +kernel
theorem d_S_init_33 : decode b_S_init 33 = .ok (.iload_n 1, 1) := by decide +kernel
theorem d_S_init_34 : decode b_S_init 34 = .ok (.newarray .int, 2) := by decide +kernel
theorem d_S_init_36 : decode b_S_init 36 = .ok (.putfield 22, 3) := by decide +kernel
theorem d_S_init_39 : decode b_S_init 39 = .ok (.return_, 1) := by decide +kernel
theorem d_S_isPosition_0 : decode b_S_isPosition 0 = .ok (.iload_n 1, 1) := by decide +kernel
theorem d_S_isPosition_1 : decode b_S_isPosition 1 = .ok (.ifCond .lt 16, 3) := by decide +kernel
theorem d_S_isPosition_4 : decode b_S_isPosition 4 = .ok (.iload_n 1, 1) := by decide +kernel
theorem d_S_isPosition_5 : decode b_S_isPosition 5 = .ok (.aload_n 0, 1) := by decide +kernel
theorem d_S_isPosition_6 : decode b_S_isPosition 6 = .ok (.getfield 19, 3) := by decide +kernel
theorem d_S_isPosition_9 : decode b_S_isPosition 9 = .ok (.arraylength, 1) := by decide +kernel
theorem d_S_isPosition_10 : decode b_S_isPosition 10 = .ok (.if_icmp .ge 7, 3) := by decide +kernel
theorem d_S_isPosition_13 : decode b_S_isPosition 13 = .ok (.iconst 1, 1) := by decide +kernel
theorem d_S_isPosition_14 : decode b_S_isPosition 14 = .ok (.goto 4, 3) := by decide +kernel
theorem d_S_isPosition_17 : decode b_S_isPosition 17 = .ok (.iconst 0, 1) := by decide +kernel
theorem d_S_isPosition_18 : decode b_S_isPosition 18 = .ok (.ireturn, 1) := by decide +kernel
theorem d_S_isWithin_0 : decode b_S_isWithin 0 = .ok (.lload_n 0, 1) := by decide +kernel
theorem d_S_isWithin_1 : decode b_S_isWithin 1 = .ok (.lload_n 2, 1) := by decide +kernel
theorem d_S_isWithin_2 : decode b_S_isWithin 2 = .ok (.lneg, 1) := by decide +kernel
theorem d_S_isWithin_3 : decode b_S_isWithin 3 = .ok (.lcmp, 1) := by decide +kernel
theorem d_S_isWithin_4 : decode b_S_isWithin 4 = .ok (.ifCond .lt 13, 3) := by decide +kernel
theorem d_S_isWithin_7 : decode b_S_isWithin 7 = .ok (.lload_n 0, 1) := by decide +kernel
theorem d_S_isWithin_8 : decode b_S_isWithin 8 = .ok (.lload_n 2, 1) := by decide +kernel
theorem d_S_isWithin_9 : decode b_S_isWithin 9 = .ok (.lcmp, 1) := by decide +kernel
theorem d_S_isWithin_10 : decode b_S_isWithin 10 = .ok (.ifCond .gt 7, 3) := by decide +kernel
theorem d_S_isWithin_13 : decode b_S_isWithin 13 = .ok (.iconst 1, 1) := by decide +kernel
theorem d_S_isWithin_14 : decode b_S_isWithin 14 = .ok (.goto 4, 3) := by decide +kernel
theorem d_S_isWithin_17 : decode b_S_isWithin 17 = .ok (.iconst 0, 1) := by decide +kernel
theorem d_S_isWithin_18 : decode b_S_isWithin 18 = .ok (.ireturn, 1) := by decide +kernel
theorem d_S_canMove_0 : decode b_S_canMove 0 = .ok (.lload_n 2, 1) := by decide +kernel
theorem d_S_canMove_1 : decode b_S_canMove 1 = .ok (.ldc2_w 26, 3) := by decide +kernel
theorem d_S_canMove_4 : decode b_S_canMove 4 = .ok (.invokestatic 28, 3) := by decide +kernel
theorem d_S_canMove_7 : decode b_S_canMove 7 = .ok (.ifCond .eq 58, 3) := by decide +kernel
theorem d_S_canMove_10 : decode b_S_canMove 10 = .ok (.aload_n 0, 1) := by decide +kernel
theorem d_S_canMove_11 : decode b_S_canMove 11 = .ok (.getfield 19, 3) := by decide +kernel
theorem d_S_canMove_14 : decode b_S_canMove 14 = .ok (.iload_n 1, 1) := by decide +kernel
theorem d_S_canMove_15 : decode b_S_canMove 15 = .ok (.laload, 1) := by decide +kernel
theorem d_S_canMove_16 : decode b_S_canMove 16 = .ok (.lload_n 2, 1) := by decide +kernel
theorem d_S_canMove_17 : decode b_S_canMove 17 = .ok (.ladd, 1) := by decide +kernel
theorem d_S_canMove_18 : decode b_S_canMove 18 = .ok (.ldc2_w 32, 3) := by decide +kernel
theorem d_S_canMove_21 : decode b_S_canMove 21 = .ok (.invokestatic 28, 3) := by decide +kernel
theorem d_S_canMove_24 : decode b_S_canMove 24 = .ok (.ifCond .eq 41, 3) := by decide +kernel
theorem d_S_canMove_27 : decode b_S_canMove 27 = .ok (.lload_n 2, 1) := by decide +kernel
theorem d_S_canMove_28 : decode b_S_canMove 28 = .ok (.lconst 0, 1) := by decide +kernel
theorem d_S_canMove_29 : decode b_S_canMove 29 = .ok (.lcmp, 1) := by decide +kernel
theorem d_S_canMove_30 : decode b_S_canMove 30 = .ok (.ifCond .ge 14, 3) := by decide +kernel
theorem d_S_canMove_33 : decode b_S_canMove 33 = .ok (.aload_n 0, 1) := by decide +kernel
theorem d_S_canMove_34 : decode b_S_canMove 34 = .ok (.getfield 13, 3) := by decide +kernel
theorem d_S_canMove_37 : decode b_S_canMove 37 = .ok (.iload_n 1, 1) := by decide +kernel
theorem d_S_canMove_38 : decode b_S_canMove 38 = .ok (.laload, 1) := by decide +kernel
theorem d_S_canMove_39 : decode b_S_canMove 39 = .ok (.lload_n 2, 1) := by decide +kernel
theorem d_S_canMove_40 : decode b_S_canMove 40 = .ok (.lsub, 1) := by decide +kernel
theorem d_S_canMove_41 : decode b_S_canMove 41 = .ok (.goto 11, 3) := by decide +kernel
theorem d_S_canMove_44 : decode b_S_canMove 44 = .ok (.aload_n 0, 1) := by decide +kernel
theorem d_S_canMove_45 : decode b_S_canMove 45 = .ok (.getfield 16, 3) := by decide +kernel
theorem d_S_canMove_48 : decode b_S_canMove 48 = .ok (.iload_n 1, 1) := by decide +kernel
theorem d_S_canMove_49 : decode b_S_canMove 49 = .ok (.laload, 1) := by decide +kernel
theorem d_S_canMove_50 : decode b_S_canMove 50 = .ok (.lload_n 2, 1) := by decide +kernel
theorem d_S_canMove_51 : decode b_S_canMove 51 = .ok (.ladd, 1) := by decide +kernel
theorem d_S_canMove_52 : decode b_S_canMove 52 = .ok (.ldc2_w 32, 3) := by decide +kernel
theorem d_S_canMove_55 : decode b_S_canMove 55 = .ok (.invokestatic 28, 3) := by decide +kernel
theorem d_S_canMove_58 : decode b_S_canMove 58 = .ok (.ifCond .eq 7, 3) := by decide +kernel
theorem d_S_canMove_61 : decode b_S_canMove 61 = .ok (.iconst 1, 1) := by decide +kernel
theorem d_S_canMove_62 : decode b_S_canMove 62 = .ok (.goto 4, 3) := by decide +kernel
theorem d_S_canMove_65 : decode b_S_canMove 65 = .ok (.iconst 0, 1) := by decide +kernel
theorem d_S_canMove_66 : decode b_S_canMove 66 = .ok (.ireturn, 1) := by decide +kernel
theorem d_S_move_0 : decode b_S_move 0 = .ok (.aload_n 0, 1) := by decide +kernel
theorem d_S_move_1 : decode b_S_move 1 = .ok (.getfield 19, 3) := by decide +kernel
theorem d_S_move_4 : decode b_S_move 4 = .ok (.iload_n 1, 1) := by decide +kernel
theorem d_S_move_5 : decode b_S_move 5 = .ok (.dup2, 1) := by decide +kernel
theorem d_S_move_6 : decode b_S_move 6 = .ok (.laload, 1) := by decide +kernel
theorem d_S_move_7 : decode b_S_move 7 = .ok (.lload_n 2, 1) := by decide +kernel
theorem d_S_move_8 : decode b_S_move 8 = .ok (.ladd, 1) := by decide +kernel
theorem d_S_move_9 : decode b_S_move 9 = .ok (.lastore, 1) := by decide +kernel
theorem d_S_move_10 : decode b_S_move 10 = .ok (.aload_n 0, 1) := by decide +kernel
theorem d_S_move_11 : decode b_S_move 11 = .ok (.getfield 13, 3) := by decide +kernel
theorem d_S_move_14 : decode b_S_move 14 = .ok (.iload_n 1, 1) := by decide +kernel
theorem d_S_move_15 : decode b_S_move 15 = .ok (.dup2, 1) := by decide +kernel
theorem d_S_move_16 : decode b_S_move 16 = .ok (.laload, 1) := by decide +kernel
theorem d_S_move_17 : decode b_S_move 17 = .ok (.lload_n 2, 1) := by decide +kernel
theorem d_S_move_18 : decode b_S_move 18 = .ok (.lconst 0, 1) := by decide +kernel
theorem d_S_move_19 : decode b_S_move 19 = .ok (.lcmp, 1) := by decide +kernel
theorem d_S_move_20 : decode b_S_move 20 = .ok (.ifCond .ge 7, 3) := by decide +kernel
theorem d_S_move_23 : decode b_S_move 23 = .ok (.lload_n 2, 1) := by decide +kernel
theorem d_S_move_24 : decode b_S_move 24 = .ok (.goto 4, 3) := by decide +kernel
theorem d_S_move_27 : decode b_S_move 27 = .ok (.lconst 0, 1) := by decide +kernel
theorem d_S_move_28 : decode b_S_move 28 = .ok (.lsub, 1) := by decide +kernel
theorem d_S_move_29 : decode b_S_move 29 = .ok (.lastore, 1) := by decide +kernel
theorem d_S_move_30 : decode b_S_move 30 = .ok (.aload_n 0, 1) := by decide +kernel
theorem d_S_move_31 : decode b_S_move 31 = .ok (.getfield 16, 3) := by decide +kernel
theorem d_S_move_34 : decode b_S_move 34 = .ok (.iload_n 1, 1) := by decide +kernel
theorem d_S_move_35 : decode b_S_move 35 = .ok (.dup2, 1) := by decide +kernel
theorem d_S_move_36 : decode b_S_move 36 = .ok (.laload, 1) := by decide +kernel
theorem d_S_move_37 : decode b_S_move 37 = .ok (.lload_n 2, 1) := by decide +kernel
theorem d_S_move_38 : decode b_S_move 38 = .ok (.lconst 0, 1) := by decide +kernel
theorem d_S_move_39 : decode b_S_move 39 = .ok (.lcmp, 1) := by decide +kernel
theorem d_S_move_40 : decode b_S_move 40 = .ok (.ifCond .le 7, 3) := by decide +kernel
theorem d_S_move_43 : decode b_S_move 43 = .ok (.lload_n 2, 1) := by decide +kernel
theorem d_S_move_44 : decode b_S_move 44 = .ok (.goto 4, 3) := by decide +kernel
theorem d_S_move_47 : decode b_S_move 47 = .ok (.lconst 0, 1) := by decide +kernel
theorem d_S_move_48 : decode b_S_move 48 = .ok (.ladd, 1) := by decide +kernel
theorem d_S_move_49 : decode b_S_move 49 = .ok (.lastore, 1) := by decide +kernel
theorem d_S_move_50 : decode b_S_move 50 = .ok (.aload_n 0, 1) := by decide +kernel
theorem d_S_move_51 : decode b_S_move 51 = .ok (.getfield 22, 3) := by decide +kernel
theorem d_S_move_54 : decode b_S_move 54 = .ok (.iload_n 1, 1) := by decide +kernel
theorem d_S_move_55 : decode b_S_move 55 = .ok (.dup2, 1) := by decide +kernel
theorem d_S_move_56 : decode b_S_move 56 = .ok (.iaload, 1) := by decide +kernel
theorem d_S_move_57 : decode b_S_move 57 = .ok (.lload_n 2, 1) := by decide +kernel
theorem d_S_move_58 : decode b_S_move 58 = .ok (.lconst 0, 1) := by decide +kernel
theorem d_S_move_59 : decode b_S_move 59 = .ok (.lcmp, 1) := by decide +kernel
theorem d_S_move_60 : decode b_S_move 60 = .ok (.ifCond .eq 7, 3) := by decide +kernel
theorem d_S_move_63 : decode b_S_move 63 = .ok (.iconst 1, 1) := by decide +kernel
theorem d_S_move_64 : decode b_S_move 64 = .ok (.goto 4, 3) := by decide +kernel
theorem d_S_move_67 : decode b_S_move 67 = .ok (.iconst 0, 1) := by decide +kernel
theorem d_S_move_68 : decode b_S_move 68 = .ok (.iadd, 1) := by decide +kernel
theorem d_S_move_69 : decode b_S_move 69 = .ok (.iastore, 1) := by decide +kernel
theorem d_S_move_70 : decode b_S_move 70 = .ok (.return_, 1) := by decide +kernel
theorem d_S_isTold_0 : decode b_S_isTold 0 = .ok (.aload_n 0, 1) := by decide +kernel
theorem d_S_isTold_1 : decode b_S_isTold 1 = .ok (.getfield 7, 3) := by decide +kernel
theorem d_S_isTold_4 : decode b_S_isTold 4 = .ok (.iload_n 1, 1) := by decide +kernel
theorem d_S_isTold_5 : decode b_S_isTold 5 = .ok (.laload, 1) := by decide +kernel
theorem d_S_isTold_6 : decode b_S_isTold 6 = .ok (.lconst 0, 1) := by decide +kernel
theorem d_S_isTold_7 : decode b_S_isTold 7 = .ok (.lcmp, 1) := by decide +kernel
theorem d_S_isTold_8 : decode b_S_isTold 8 = .ok (.ifCond .ne 12, 3) := by decide +kernel
theorem d_S_isTold_11 : decode b_S_isTold 11 = .ok (.aload_n 0, 1) := by decide +kernel
theorem d_S_isTold_12 : decode b_S_isTold 12 = .ok (.getfield 22, 3) := by decide +kernel
theorem d_S_isTold_15 : decode b_S_isTold 15 = .ok (.iload_n 1, 1) := by decide +kernel
theorem d_S_isTold_16 : decode b_S_isTold 16 = .ok (.iaload, 1) := by decide +kernel
theorem d_S_isTold_17 : decode b_S_isTold 17 = .ok (.ifCond .le 7, 3) := by decide +kernel
theorem d_S_isTold_20 : decode b_S_isTold 20 = .ok (.iconst 1, 1) := by decide +kernel
theorem d_S_isTold_21 : decode b_S_isTold 21 = .ok (.goto 4, 3) := by decide +kernel
theorem d_S_isTold_24 : decode b_S_isTold 24 = .ok (.iconst 0, 1) := by decide +kernel
theorem d_S_isTold_25 : decode b_S_isTold 25 = .ok (.ireturn, 1) := by decide +kernel
theorem d_S_of_0 : decode b_S_of 0 = .ok (.iload_n 2, 1) := by decide +kernel
theorem d_S_of_1 : decode b_S_of 1 = .ok (.tableswitch 71 0 4 #[35, 42, 49, 56, 63], 35) := by decide +kernel
theorem d_S_of_36 : decode b_S_of 36 = .ok (.aload_n 0, 1) := by decide +kernel
theorem d_S_of_37 : decode b_S_of 37 = .ok (.getfield 7, 3) := by decide +kernel
theorem d_S_of_40 : decode b_S_of 40 = .ok (.iload_n 1, 1) := by decide +kernel
theorem d_S_of_41 : decode b_S_of 41 = .ok (.laload, 1) := by decide +kernel
theorem d_S_of_42 : decode b_S_of 42 = .ok (.lreturn, 1) := by decide +kernel
theorem d_S_of_43 : decode b_S_of 43 = .ok (.aload_n 0, 1) := by decide +kernel
theorem d_S_of_44 : decode b_S_of 44 = .ok (.getfield 13, 3) := by decide +kernel
theorem d_S_of_47 : decode b_S_of 47 = .ok (.iload_n 1, 1) := by decide +kernel
theorem d_S_of_48 : decode b_S_of 48 = .ok (.laload, 1) := by decide +kernel
theorem d_S_of_49 : decode b_S_of 49 = .ok (.lreturn, 1) := by decide +kernel
theorem d_S_of_50 : decode b_S_of 50 = .ok (.aload_n 0, 1) := by decide +kernel
theorem d_S_of_51 : decode b_S_of 51 = .ok (.getfield 16, 3) := by decide +kernel
theorem d_S_of_54 : decode b_S_of 54 = .ok (.iload_n 1, 1) := by decide +kernel
theorem d_S_of_55 : decode b_S_of 55 = .ok (.laload, 1) := by decide +kernel
theorem d_S_of_56 : decode b_S_of 56 = .ok (.lreturn, 1) := by decide +kernel
theorem d_S_of_57 : decode b_S_of 57 = .ok (.aload_n 0, 1) := by decide +kernel
theorem d_S_of_58 : decode b_S_of 58 = .ok (.getfield 19, 3) := by decide +kernel
theorem d_S_of_61 : decode b_S_of 61 = .ok (.iload_n 1, 1) := by decide +kernel
theorem d_S_of_62 : decode b_S_of 62 = .ok (.laload, 1) := by decide +kernel
theorem d_S_of_63 : decode b_S_of 63 = .ok (.lreturn, 1) := by decide +kernel
theorem d_S_of_64 : decode b_S_of 64 = .ok (.aload_n 0, 1) := by decide +kernel
theorem d_S_of_65 : decode b_S_of 65 = .ok (.getfield 22, 3) := by decide +kernel
theorem d_S_of_68 : decode b_S_of 68 = .ok (.iload_n 1, 1) := by decide +kernel
theorem d_S_of_69 : decode b_S_of 69 = .ok (.iaload, 1) := by decide +kernel
theorem d_S_of_70 : decode b_S_of 70 = .ok (.i2l, 1) := by decide +kernel
theorem d_S_of_71 : decode b_S_of 71 = .ok (.lreturn, 1) := by decide +kernel
theorem d_S_of_72 : decode b_S_of 72 = .ok (.lconst 0, 1) := by decide +kernel
theorem d_S_of_73 : decode b_S_of 73 = .ok (.lreturn, 1) := by decide +kernel
theorem d_S_begin_0 : decode b_S_begin 0 = .ok (.iconst 0, 1) := by decide +kernel
theorem d_S_begin_1 : decode b_S_begin 1 = .ok (.istore_n 1, 1) := by decide +kernel
theorem d_S_begin_2 : decode b_S_begin 2 = .ok (.iload_n 1, 1) := by decide +kernel
theorem d_S_begin_3 : decode b_S_begin 3 = .ok (.aload_n 0, 1) := by decide +kernel
theorem d_S_begin_4 : decode b_S_begin 4 = .ok (.getfield 19, 3) := by decide +kernel
theorem d_S_begin_7 : decode b_S_begin 7 = .ok (.arraylength, 1) := by decide +kernel
theorem d_S_begin_8 : decode b_S_begin 8 = .ok (.if_icmp .ge 42, 3) := by decide +kernel
theorem d_S_begin_11 : decode b_S_begin 11 = .ok (.aload_n 0, 1) := by decide +kernel
theorem d_S_begin_12 : decode b_S_begin 12 = .ok (.getfield 7, 3) := by decide +kernel
theorem d_S_begin_15 : decode b_S_begin 15 = .ok (.iload_n 1, 1) := by decide +kernel
theorem d_S_begin_16 : decode b_S_begin 16 = .ok (.aload_n 0, 1) := by decide +kernel
theorem d_S_begin_17 : decode b_S_begin 17 = .ok (.getfield 19, 3) := by decide +kernel
theorem d_S_begin_20 : decode b_S_begin 20 = .ok (.iload_n 1, 1) := by decide +kernel
theorem d_S_begin_21 : decode b_S_begin 21 = .ok (.laload, 1) := by decide +kernel
theorem d_S_begin_22 : decode b_S_begin 22 = .ok (.lastore, 1) := by decide +kernel
theorem d_S_begin_23 : decode b_S_begin 23 = .ok (.aload_n 0, 1) := by decide +kernel
theorem d_S_begin_24 : decode b_S_begin 24 = .ok (.getfield 13, 3) := by decide +kernel
theorem d_S_begin_27 : decode b_S_begin 27 = .ok (.iload_n 1, 1) := by decide +kernel
theorem d_S_begin_28 : decode b_S_begin 28 = .ok (.lconst 0, 1) := by decide +kernel
theorem d_S_begin_29 : decode b_S_begin 29 = .ok (.lastore, 1) := by decide +kernel
theorem d_S_begin_30 : decode b_S_begin 30 = .ok (.aload_n 0, 1) := by decide +kernel
theorem d_S_begin_31 : decode b_S_begin 31 = .ok (.getfield 16, 3) := by decide +kernel
theorem d_S_begin_34 : decode b_S_begin 34 = .ok (.iload_n 1, 1) := by decide +kernel
theorem d_S_begin_35 : decode b_S_begin 35 = .ok (.lconst 0, 1) := by decide +kernel
theorem d_S_begin_36 : decode b_S_begin 36 = .ok (.lastore, 1) := by decide +kernel
theorem d_S_begin_37 : decode b_S_begin 37 = .ok (.aload_n 0, 1) := by decide +kernel
theorem d_S_begin_38 : decode b_S_begin 38 = .ok (.getfield 22, 3) := by decide +kernel
theorem d_S_begin_41 : decode b_S_begin 41 = .ok (.iload_n 1, 1) := by decide +kernel
theorem d_S_begin_42 : decode b_S_begin 42 = .ok (.iconst 0, 1) := by decide +kernel
theorem d_S_begin_43 : decode b_S_begin 43 = .ok (.iastore, 1) := by decide +kernel
theorem d_S_begin_44 : decode b_S_begin 44 = .ok (.iinc 1 1, 3) := by decide +kernel
theorem d_S_begin_47 : decode b_S_begin 47 = .ok (.goto (-45), 3) := by decide +kernel
theorem d_S_begin_50 : decode b_S_begin 50 = .ok (.return_, 1) := by decide +kernel
end
section
/-! the instructions, read -/
theorem d_M_init_0 : decode b_M_init 0 = .ok (.aload_n 0, 1) := by decide +kernel
theorem d_M_init_1 : decode b_M_init 1 = .ok (.invokespecial 1, 3) := by decide +kernel
theorem d_M_init_4 : decode b_M_init 4 = .ok (.aload_n 0, 1) := by decide +kernel
theorem d_M_init_5 : decode b_M_init 5 = .ok (.sipush 200, 3) := by decide +kernel
theorem d_M_init_8 : decode b_M_init 8 = .ok (.newarray .long, 2) := by decide +kernel
theorem d_M_init_10 : decode b_M_init 10 = .ok (.putfield 7, 3) := by decide +kernel
theorem d_M_init_13 : decode b_M_init 13 = .ok (.aload_n 0, 1) := by decide +kernel
theorem d_M_init_14 : decode b_M_init 14 = .ok (.sipush 520, 3) := by decide +kernel
theorem d_M_init_17 : decode b_M_init 17 = .ok (.newarray .int, 2) := by decide +kernel
theorem d_M_init_19 : decode b_M_init 19 = .ok (.putfield 13, 3) := by decide +kernel
theorem d_M_init_22 : decode b_M_init 22 = .ok (.aload_n 0, 1) := by decide +kernel
theorem d_M_init_23 : decode b_M_init 23 = .ok (.sipush 520, 3) := by decide +kernel
theorem d_M_init_26 : decode b_M_init 26 = .ok (.newarray .long, 2) := by decide +kernel
theorem d_M_init_28 : decode b_M_init 28 = .ok (.putfield 17, 3) := by decide +kernel
theorem d_M_init_31 : decode b_M_init 31 = .ok (.aload_n 0, 1) := by decide +kernel
theorem d_M_init_32 : decode b_M_init 32 = .ok (.bipush 120, 2) := by decide +kernel
theorem d_M_init_34 : decode b_M_init 34 = .ok (.newarray .int, 2) := by decide +kernel
theorem d_M_init_36 : decode b_M_init 36 = .ok (.putfield 20, 3) := by decide +kernel
theorem d_M_init_39 : decode b_M_init 39 = .ok (.return_, 1) := by decide +kernel
theorem d_M_tick_0 : decode b_M_tick 0 = .ok (.aload_n 0, 1) := by decide +kernel
theorem d_M_tick_1 : decode b_M_tick 1 = .ok (.getfield 23, 3) := by decide +kernel
theorem d_M_tick_4 : decode b_M_tick 4 = .ok (.ldc2_w 27, 3) := by decide +kernel
theorem d_M_tick_7 : decode b_M_tick 7 = .ok (.lrem, 1) := by decide +kernel
theorem d_M_tick_8 : decode b_M_tick 8 = .ok (.l2i, 1) := by decide +kernel
theorem d_M_tick_9 : decode b_M_tick 9 = .ok (.ireturn, 1) := by decide +kernel
theorem d_M_isResolved_0 : decode b_M_isResolved 0 = .ok (.iload_n 0, 1) := by decide +kernel
theorem d_M_isResolved_1 : decode b_M_isResolved 1 = .ok (.sipush 150, 3) := by decide +kernel
theorem d_M_isResolved_4 : decode b_M_isResolved 4 = .ok (.if_icmp .lt 21, 3) := by decide +kernel
theorem d_M_isResolved_7 : decode b_M_isResolved 7 = .ok (.iload_n 0, 1) := by decide +kernel
theorem d_M_isResolved_8 : decode b_M_isResolved 8 = .ok (.sipush 900, 3) := by decide +kernel
theorem d_M_isResolved_11 : decode b_M_isResolved 11 = .ok (.if_icmp .gt 14, 3) := by decide +kernel
theorem d_M_isResolved_14 : decode b_M_isResolved 14 = .ok (.iload_n 0, 1) := by decide +kernel
theorem d_M_isResolved_15 : decode b_M_isResolved 15 = .ok (.bipush 50, 2) := by decide +kernel
theorem d_M_isResolved_17 : decode b_M_isResolved 17 = .ok (.irem, 1) := by decide +kernel
theorem d_M_isResolved_18 : decode b_M_isResolved 18 = .ok (.ifCond .ne 7, 3) := by decide +kernel
theorem d_M_isResolved_21 : decode b_M_isResolved 21 = .ok (.iconst 1, 1) := by decide +kernel
theorem d_M_isResolved_22 : decode b_M_isResolved 22 = .ok (.goto 4, 3) := by decide +kernel
theorem d_M_isResolved_25 : decode b_M_isResolved 25 = .ok (.iconst 0, 1) := by decide +kernel
theorem d_M_isResolved_26 : decode b_M_isResolved 26 = .ok (.ireturn, 1) := by decide +kernel
theorem d_M_phaseOf_0 : decode b_M_phaseOf 0 = .ok (.iload_n 0, 1) := by decide +kernel
theorem d_M_phaseOf_1 : decode b_M_phaseOf 1 = .ok (.bipush 100, 2) := by decide +kernel
theorem d_M_phaseOf_3 : decode b_M_phaseOf 3 = .ok (.if_icmp .ge 7, 3) := by decide +kernel
theorem d_M_phaseOf_6 : decode b_M_phaseOf 6 = .ok (.iconst 0, 1) := by decide +kernel
theorem d_M_phaseOf_7 : decode b_M_phaseOf 7 = .ok (.goto 37, 3) := by decide +kernel
theorem d_M_phaseOf_10 : decode b_M_phaseOf 10 = .ok (.iload_n 0, 1) := by decide +kernel
theorem d_M_phaseOf_11 : decode b_M_phaseOf 11 = .ok (.sipush 700, 3) := by decide +kernel
theorem d_M_phaseOf_14 : decode b_M_phaseOf 14 = .ok (.if_icmp .ge 7, 3) := by decide +kernel
theorem d_M_phaseOf_17 : decode b_M_phaseOf 17 = .ok (.iconst 1, 1) := by decide +kernel
theorem d_M_phaseOf_18 : decode b_M_phaseOf 18 = .ok (.goto 26, 3) := by decide +kernel
theorem d_M_phaseOf_21 : decode b_M_phaseOf 21 = .ok (.iload_n 0, 1) := by decide +kernel
theorem d_M_phaseOf_22 : decode b_M_phaseOf 22 = .ok (.sipush 800, 3) := by decide +kernel
theorem d_M_phaseOf_25 : decode b_M_phaseOf 25 = .ok (.if_icmp .ge 7, 3) := by decide +kernel
theorem d_M_phaseOf_28 : decode b_M_phaseOf 28 = .ok (.iconst 2, 1) := by decide +kernel
theorem d_M_phaseOf_29 : decode b_M_phaseOf 29 = .ok (.goto 15, 3) := by decide +kernel
theorem d_M_phaseOf_32 : decode b_M_phaseOf 32 = .ok (.iload_n 0, 1) := by decide +kernel
theorem d_M_phaseOf_33 : decode b_M_phaseOf 33 = .ok (.sipush 900, 3) := by decide +kernel
theorem d_M_phaseOf_36 : decode b_M_phaseOf 36 = .ok (.if_icmp .ge 7, 3) := by decide +kernel
theorem d_M_phaseOf_39 : decode b_M_phaseOf 39 = .ok (.iconst 3, 1) := by decide +kernel
theorem d_M_phaseOf_40 : decode b_M_phaseOf 40 = .ok (.goto 4, 3) := by decide +kernel
theorem d_M_phaseOf_43 : decode b_M_phaseOf 43 = .ok (.iconst 4, 1) := by decide +kernel
theorem d_M_phaseOf_44 : decode b_M_phaseOf 44 = .ok (.ireturn, 1) := by decide +kernel
theorem d_M_begin_0 : decode b_M_begin 0 = .ok (.iconst 0, 1) := by decide +kernel
theorem d_M_begin_1 : decode b_M_begin 1 = .ok (.istore_n 1, 1) := by decide +kernel
theorem d_M_begin_2 : decode b_M_begin 2 = .ok (.iload_n 1, 1) := by decide +kernel
theorem d_M_begin_3 : decode b_M_begin 3 = .ok (.sipush 200, 3) := by decide +kernel
theorem d_M_begin_6 : decode b_M_begin 6 = .ok (.if_icmp .ge 21, 3) := by decide +kernel
theorem d_M_begin_9 : decode b_M_begin 9 = .ok (.aload_n 0, 1) := by decide +kernel
theorem d_M_begin_10 : decode b_M_begin 10 = .ok (.getfield 7, 3) := by decide +kernel
theorem d_M_begin_13 : decode b_M_begin 13 = .ok (.iload_n 1, 1) := by decide +kernel
theorem d_M_begin_14 : decode b_M_begin 14 = .ok (.aload_n 0, 1) := by decide +kernel
theorem d_M_begin_15 : decode b_M_begin 15 = .ok (.iload_n 1, 1) := by decide +kernel
theorem d_M_begin_16 : decode b_M_begin 16 = .ok (.iconst 3, 1) := by decide +kernel
theorem d_M_begin_17 : decode b_M_begin 17 = .ok (.invokevirtual 29, 3) := by decide +kernel
theorem d_M_begin_20 : decode b_M_begin 20 = .ok (.lastore, 1) := by decide +kernel
theorem d_M_begin_21 : decode b_M_begin 21 = .ok (.iinc 1 1, 3) := by decide +kernel
theorem d_M_begin_24 : decode b_M_begin 24 = .ok (.goto (-22), 3) := by decide +kernel
theorem d_M_begin_27 : decode b_M_begin 27 = .ok (.aload_n 0, 1) := by decide +kernel
theorem d_M_begin_28 : decode b_M_begin 28 = .ok (.iconst 0, 1) := by decide +kernel
theorem d_M_begin_29 : decode b_M_begin 29 = .ok (.putfield 33, 3) := by decide +kernel
theorem d_M_begin_32 : decode b_M_begin 32 = .ok (.return_, 1) := by decide +kernel
theorem d_M_pass_0 : decode b_M_pass 0 = .ok (.aload_n 0, 1) := by decide +kernel
theorem d_M_pass_1 : decode b_M_pass 1 = .ok (.dup, 1) := by decide +kernel
theorem d_M_pass_2 : decode b_M_pass 2 = .ok (.getfield 23, 3) := by decide +kernel
theorem d_M_pass_5 : decode b_M_pass 5 = .ok (.lconst 1, 1) := by decide +kernel
theorem d_M_pass_6 : decode b_M_pass 6 = .ok (.ladd, 1) := by decide +kernel
theorem d_M_pass_7 : decode b_M_pass 7 = .ok (.putfield 23, 3) := by decide +kernel
theorem d_M_pass_10 : decode b_M_pass 10 = .ok (.aload_n 0, 1) := by decide +kernel
theorem d_M_pass_11 : decode b_M_pass 11 = .ok (.invokevirtual 37, 3) := by decide +kernel
theorem d_M_pass_14 : decode b_M_pass 14 = .ok (.istore_n 1, 1) := by decide +kernel
theorem d_M_pass_15 : decode b_M_pass 15 = .ok (.iload_n 1, 1) := by decide +kernel
theorem d_M_pass_16 : decode b_M_pass 16 = .ok (.ifCond .ne 7, 3) := by decide +kernel
theorem d_M_pass_19 : decode b_M_pass 19 = .ok (.aload_n 0, 1) := by decide +kernel
theorem d_M_pass_20 : decode b_M_pass 20 = .ok (.invokevirtual 41, 3) := by decide +kernel
theorem d_M_pass_23 : decode b_M_pass 23 = .ok (.iload_n 1, 1) := by decide +kernel
theorem d_M_pass_24 : decode b_M_pass 24 = .ok (.invokestatic 44, 3) := by decide +kernel
theorem d_M_pass_27 : decode b_M_pass 27 = .ok (.ifCond .eq 7, 3) := by decide +kernel
theorem d_M_pass_30 : decode b_M_pass 30 = .ok (.iconst 1, 1) := by decide +kernel
theorem d_M_pass_31 : decode b_M_pass 31 = .ok (.goto 4, 3) := by decide +kernel
theorem d_M_pass_34 : decode b_M_pass 34 = .ok (.iconst 0, 1) := by decide +kernel
theorem d_M_pass_35 : decode b_M_pass 35 = .ok (.iload_n 1, 1) := by decide +kernel
theorem d_M_pass_36 : decode b_M_pass 36 = .ok (.sipush 900, 3) := by decide +kernel
theorem d_M_pass_39 : decode b_M_pass 39 = .ok (.if_icmp .ne 7, 3) := by decide +kernel
theorem d_M_pass_42 : decode b_M_pass 42 = .ok (.iconst 2, 1) := by decide +kernel
theorem d_M_pass_43 : decode b_M_pass 43 = .ok (.goto 4, 3) := by decide +kernel
theorem d_M_pass_46 : decode b_M_pass 46 = .ok (.iconst 0, 1) := by decide +kernel
theorem d_M_pass_47 : decode b_M_pass 47 = .ok (.iadd, 1) := by decide +kernel
theorem d_M_pass_48 : decode b_M_pass 48 = .ok (.iload_n 1, 1) := by decide +kernel
theorem d_M_pass_49 : decode b_M_pass 49 = .ok (.ifCond .ne 7, 3) := by decide +kernel
theorem d_M_pass_52 : decode b_M_pass 52 = .ok (.iconst 4, 1) := by decide +kernel
theorem d_M_pass_53 : decode b_M_pass 53 = .ok (.goto 4, 3) := by decide +kernel
theorem d_M_pass_56 : decode b_M_pass 56 = .ok (.iconst 0, 1) := by decide +kernel
theorem d_M_pass_57 : decode b_M_pass 57 = .ok (.iadd, 1) := by decide +kernel
theorem d_M_pass_58 : decode b_M_pass 58 = .ok (.ireturn, 1) := by decide +kernel
theorem d_M_skip_0 : decode b_M_skip 0 = .ok (.iload_n 1, 1) := by decide +kernel
theorem d_M_skip_1 : decode b_M_skip 1 = .ok (.iconst 1, 1) := by decide +kernel
theorem d_M_skip_2 : decode b_M_skip 2 = .ok (.if_icmp .lt 9, 3) := by decide +kernel
theorem d_M_skip_5 : decode b_M_skip 5 = .ok (.iload_n 1, 1) := by decide +kernel
theorem d_M_skip_6 : decode b_M_skip 6 = .ok (.ldc 48, 2) := by decide +kernel
theorem d_M_skip_8 : decode b_M_skip 8 = .ok (.if_icmp .le 5, 3) := by decide +kernel
theorem d_M_skip_11 : decode b_M_skip 11 = .ok (.iconst (-1), 1) := by decide +kernel
theorem d_M_skip_12 : decode b_M_skip 12 = .ok (.ireturn, 1) := by decide +kernel
theorem d_M_skip_13 : decode b_M_skip 13 = .ok (.iconst 0, 1) := by decide +kernel
theorem d_M_skip_14 : decode b_M_skip 14 = .ok (.istore_n 2, 1) := by decide +kernel
theorem d_M_skip_15 : decode b_M_skip 15 = .ok (.iconst 0, 1) := by decide +kernel
theorem d_M_skip_16 : decode b_M_skip 16 = .ok (.istore_n 3, 1) := by decide +kernel
theorem d_M_skip_17 : decode b_M_skip 17 = .ok (.iload_n 3, 1) := by decide +kernel
theorem d_M_skip_18 : decode b_M_skip 18 = .ok (.iload_n 1, 1) := by decide +kernel
theorem d_M_skip_19 : decode b_M_skip 19 = .ok (.if_icmp .ge 18, 3) := by decide +kernel
theorem d_M_skip_22 : decode b_M_skip 22 = .ok (.iload_n 2, 1) := by decide +kernel
theorem d_M_skip_23 : decode b_M_skip 23 = .ok (.aload_n 0, 1) := by decide +kernel
theorem d_M_skip_24 : decode b_M_skip 24 = .ok (.invokevirtual 49, 3) := by decide +kernel
theorem d_M_skip_27 : decode b_M_skip 27 = .ok (.iconst 1, 1) := by decide +kernel
theorem d_M_skip_28 : decode b_M_skip 28 = .ok (.iand, 1) := by decide +kernel
theorem d_M_skip_29 : decode b_M_skip 29 = .ok (.iadd, 1) := by decide +kernel
theorem d_M_skip_30 : decode b_M_skip 30 = .ok (.istore_n 2, 1) := by decide +kernel
theorem d_M_skip_31 : decode b_M_skip 31 = .ok (.iinc 3 1, 3) := by decide +kernel
theorem d_M_skip_34 : decode b_M_skip 34 = .ok (.goto (-17), 3) := by decide +kernel
theorem d_M_skip_37 : decode b_M_skip 37 = .ok (.iload_n 2, 1) := by decide +kernel
theorem d_M_skip_38 : decode b_M_skip 38 = .ok (.ireturn, 1) := by decide +kernel
theorem d_M_may_0 : decode b_M_may 0 = .ok (.aload_n 0, 1) := by decide +kernel
theorem d_M_may_1 : decode b_M_may 1 = .ok (.invokevirtual 37, 3) := by decide +kernel
theorem d_M_may_4 : decode b_M_may 4 = .ok (.invokestatic 52, 3) := by decide +kernel
theorem d_M_may_7 : decode b_M_may 7 = .ok (.istore 4, 2) := by decide +kernel
theorem d_M_may_9 : decode b_M_may 9 = .ok (.iload_n 1, 1) := by decide +kernel
theorem d_M_may_10 : decode b_M_may 10 = .ok (.iconst 3, 1) := by decide +kernel
theorem d_M_may_11 : decode b_M_may 11 = .ok (.if_icmp .lt 9, 3) := by decide +kernel
theorem d_M_may_14 : decode b_M_may 14 = .ok (.iload_n 1, 1) := by decide +kernel
theorem d_M_may_15 : decode b_M_may 15 = .ok (.bipush 6, 2) := by decide +kernel
theorem d_M_may_17 : decode b_M_may 17 = .ok (.if_icmp .le 9, 3) := by decide +kernel
theorem d_M_may_20 : decode b_M_may 20 = .ok (.iload_n 1, 1) := by decide +kernel
theorem d_M_may_21 : decode b_M_may 21 = .ok (.bipush 13, 2) := by decide +kernel
theorem d_M_may_23 : decode b_M_may 23 = .ok (.if_icmp .ne 7, 3) := by decide +kernel
theorem d_M_may_26 : decode b_M_may 26 = .ok (.iconst 1, 1) := by decide +kernel
theorem d_M_may_27 : decode b_M_may 27 = .ok (.goto 4, 3) := by decide +kernel
theorem d_M_may_30 : decode b_M_may 30 = .ok (.iconst 0, 1) := by decide +kernel
theorem d_M_may_31 : decode b_M_may 31 = .ok (.istore 5, 2) := by decide +kernel
theorem d_M_may_33 : decode b_M_may 33 = .ok (.iload_n 1, 1) := by decide +kernel
theorem d_M_may_34 : decode b_M_may 34 = .ok (.ifCond .lt 13, 3) := by decide +kernel
theorem d_M_may_37 : decode b_M_may 37 = .ok (.iload_n 1, 1) := by decide +kernel
theorem d_M_may_38 : decode b_M_may 38 = .ok (.bipush 14, 2) := by decide +kernel
theorem d_M_may_40 : decode b_M_may 40 = .ok (.if_icmp .gt 7, 3) := by decide +kernel
theorem d_M_may_43 : decode b_M_may 43 = .ok (.iconst 1, 1) := by decide +kernel
theorem d_M_may_44 : decode b_M_may 44 = .ok (.goto 4, 3) := by decide +kernel
theorem d_M_may_47 : decode b_M_may 47 = .ok (.iconst 0, 1) := by decide +kernel
theorem d_M_may_48 : decode b_M_may 48 = .ok (.istore 6, 2) := by decide +kernel
theorem d_M_may_50 : decode b_M_may 50 = .ok (.iload 6, 2) := by decide +kernel
theorem d_M_may_52 : decode b_M_may 52 = .ok (.ifCond .eq 40, 3) := by decide +kernel
theorem d_M_may_55 : decode b_M_may 55 = .ok (.iload 4, 2) := by decide +kernel
theorem d_M_may_57 : decode b_M_may 57 = .ok (.ifCond .ne 8, 3) := by decide +kernel
theorem d_M_may_60 : decode b_M_may 60 = .ok (.iload 5, 2) := by decide +kernel
theorem d_M_may_62 : decode b_M_may 62 = .ok (.ifCond .ne 30, 3) := by decide +kernel
theorem d_M_may_65 : decode b_M_may 65 = .ok (.iload 4, 2) := by decide +kernel
theorem d_M_may_67 : decode b_M_may 67 = .ok (.iconst 4, 1) := by decide +kernel
theorem d_M_may_68 : decode b_M_may 68 = .ok (.if_icmp .ne 20, 3) := by decide +kernel
theorem d_M_may_71 : decode b_M_may 71 = .ok (.iload 5, 2) := by decide +kernel
theorem d_M_may_73 : decode b_M_may 73 = .ok (.ifCond .ne 19, 3) := by decide +kernel
theorem d_M_may_76 : decode b_M_may 76 = .ok (.iload_n 1, 1) := by decide +kernel
theorem d_M_may_77 : decode b_M_may 77 = .ok (.bipush 7, 2) := by decide +kernel
theorem d_M_may_79 : decode b_M_may 79 = .ok (.if_icmp .eq 13, 3) := by decide +kernel
theorem d_M_may_82 : decode b_M_may 82 = .ok (.iload_n 1, 1) := by decide +kernel
theorem d_M_may_83 : decode b_M_may 83 = .ok (.bipush 8, 2) := by decide +kernel
theorem d_M_may_85 : decode b_M_may 85 = .ok (.if_icmp .eq 7, 3) := by decide +kernel
theorem d_M_may_88 : decode b_M_may 88 = .ok (.iconst 1, 1) := by decide +kernel
theorem d_M_may_89 : decode b_M_may 89 = .ok (.goto 4, 3) := by decide +kernel
theorem d_M_may_92 : decode b_M_may 92 = .ok (.iconst 0, 1) := by decide +kernel
theorem d_M_may_93 : decode b_M_may 93 = .ok (.istore 6, 2) := by decide +kernel
theorem d_M_may_95 : decode b_M_may 95 = .ok (.iload 6, 2) := by decide +kernel
theorem d_M_may_97 : decode b_M_may 97 = .ok (.ifCond .eq 33, 3) := by decide +kernel
theorem d_M_may_100 : decode b_M_may 100 = .ok (.iload_n 1, 1) := by decide +kernel
theorem d_M_may_101 : decode b_M_may 101 = .ok (.iconst 5, 1) := by decide +kernel
theorem d_M_may_102 : decode b_M_may 102 = .ok (.if_icmp .ne 24, 3) := by decide +kernel
theorem d_M_may_105 : decode b_M_may 105 = .ok (.iload 4, 2) := by decide +kernel
theorem d_M_may_107 : decode b_M_may 107 = .ok (.iconst 2, 1) := by decide +kernel
theorem d_M_may_108 : decode b_M_may 108 = .ok (.if_icmp .ne 8, 3) := by decide +kernel
theorem d_M_may_111 : decode b_M_may 111 = .ok (.iload_n 2, 1) := by decide +kernel
theorem d_M_may_112 : decode b_M_may 112 = .ok (.iconst 4, 1) := by decide +kernel
theorem d_M_may_113 : decode b_M_may 113 = .ok (.if_icmp .gt 17, 3) := by decide +kernel
theorem d_M_may_116 : decode b_M_may 116 = .ok (.iload 4, 2) := by decide +kernel
theorem d_M_may_118 : decode b_M_may 118 = .ok (.iconst 3, 1) := by decide +kernel
theorem d_M_may_119 : decode b_M_may 119 = .ok (.if_icmp .ne 7, 3) := by decide +kernel
theorem d_M_may_122 : decode b_M_may 122 = .ok (.iload_n 3, 1) := by decide +kernel
theorem d_M_may_123 : decode b_M_may 123 = .ok (.ifCond .eq 7, 3) := by decide +kernel
theorem d_M_may_126 : decode b_M_may 126 = .ok (.iconst 1, 1) := by decide +kernel
theorem d_M_may_127 : decode b_M_may 127 = .ok (.goto 4, 3) := by decide +kernel
theorem d_M_may_130 : decode b_M_may 130 = .ok (.iconst 0, 1) := by decide +kernel
theorem d_M_may_131 : decode b_M_may 131 = .ok (.ireturn, 1) := by decide +kernel
theorem d_M_look_0 : decode b_M_look 0 = .ok (.aload_n 0, 1) := by decide +kernel
theorem d_M_look_1 : decode b_M_look 1 = .ok (.invokevirtual 37, 3) := by decide +kernel
theorem d_M_look_4 : decode b_M_look 4 = .ok (.istore_n 2, 1) := by decide +kernel
theorem d_M_look_5 : decode b_M_look 5 = .ok (.iload_n 1, 1) := by decide +kernel
theorem d_M_look_6 : decode b_M_look 6 = .ok (.iconst 3, 1) := by decide +kernel
theorem d_M_look_7 : decode b_M_look 7 = .ok (.if_icmp .ge 42, 3) := by decide +kernel
theorem d_M_look_10 : decode b_M_look 10 = .ok (.iload_n 1, 1) := by decide +kernel
theorem d_M_look_11 : decode b_M_look 11 = .ok (.ifCond .ne 15, 3) := by decide +kernel
theorem d_M_look_14 : decode b_M_look 14 = .ok (.aload_n 0, 1) := by decide +kernel
theorem d_M_look_15 : decode b_M_look 15 = .ok (.getfield 23, 3) := by decide +kernel
theorem d_M_look_18 : decode b_M_look 18 = .ok (.ldc2_w 27, 3) := by decide +kernel
theorem d_M_look_21 : decode b_M_look 21 = .ok (.ldiv, 1) := by decide +kernel
theorem d_M_look_22 : decode b_M_look 22 = .ok (.l2i, 1) := by decide +kernel
theorem d_M_look_23 : decode b_M_look 23 = .ok (.goto 25, 3) := by decide +kernel
theorem d_M_look_26 : decode b_M_look 26 = .ok (.iload_n 1, 1) := by decide +kernel
theorem d_M_look_27 : decode b_M_look 27 = .ok (.iconst 1, 1) := by decide +kernel
theorem d_M_look_28 : decode b_M_look 28 = .ok (.if_icmp .ne 7, 3) := by decide +kernel
theorem d_M_look_31 : decode b_M_look 31 = .ok (.iload_n 2, 1) := by decide +kernel
theorem d_M_look_32 : decode b_M_look 32 = .ok (.goto 16, 3) := by decide +kernel
theorem d_M_look_35 : decode b_M_look 35 = .ok (.iload_n 1, 1) := by decide +kernel
theorem d_M_look_36 : decode b_M_look 36 = .ok (.iconst 2, 1) := by decide +kernel
theorem d_M_look_37 : decode b_M_look 37 = .ok (.if_icmp .ne 10, 3) := by decide +kernel
theorem d_M_look_40 : decode b_M_look 40 = .ok (.iload_n 2, 1) := by decide +kernel
theorem d_M_look_41 : decode b_M_look 41 = .ok (.invokestatic 52, 3) := by decide +kernel
theorem d_M_look_44 : decode b_M_look 44 = .ok (.goto 4, 3) := by decide +kernel
theorem d_M_look_47 : decode b_M_look 47 = .ok (.iconst (-1), 1) := by decide +kernel
theorem d_M_look_48 : decode b_M_look 48 = .ok (.ireturn, 1) := by decide +kernel
theorem d_M_look_49 : decode b_M_look 49 = .ok (.iconst 1, 1) := by decide +kernel
theorem d_M_look_50 : decode b_M_look 50 = .ok (.istore_n 3, 1) := by decide +kernel
theorem d_M_look_51 : decode b_M_look 51 = .ok (.iconst 0, 1) := by decide +kernel
theorem d_M_look_52 : decode b_M_look 52 = .ok (.istore 4, 2) := by decide +kernel
theorem d_M_look_54 : decode b_M_look 54 = .ok (.iload 4, 2) := by decide +kernel
theorem d_M_look_56 : decode b_M_look 56 = .ok (.sipush 1200, 3) := by decide +kernel
theorem d_M_look_59 : decode b_M_look 59 = .ok (.if_icmp .ge 50, 3) := by decide +kernel
theorem d_M_look_62 : decode b_M_look 62 = .ok (.iload_n 1, 1) := by decide +kernel
theorem d_M_look_63 : decode b_M_look 63 = .ok (.iconst 3, 1) := by decide +kernel
theorem d_M_look_64 : decode b_M_look 64 = .ok (.if_icmp .ne 19, 3) := by decide +kernel
theorem d_M_look_67 : decode b_M_look 67 = .ok (.iload_n 2, 1) := by decide +kernel
theorem d_M_look_68 : decode b_M_look 68 = .ok (.iload_n 3, 1) := by decide +kernel
theorem d_M_look_69 : decode b_M_look 69 = .ok (.iadd, 1) := by decide +kernel
theorem d_M_look_70 : decode b_M_look 70 = .ok (.sipush 1000, 3) := by decide +kernel
theorem d_M_look_73 : decode b_M_look 73 = .ok (.irem, 1) := by decide +kernel
theorem d_M_look_74 : decode b_M_look 74 = .ok (.invokestatic 44, 3) := by decide +kernel
theorem d_M_look_77 : decode b_M_look 77 = .ok (.ifCond .ne 32, 3) := by decide +kernel
theorem d_M_look_80 : decode b_M_look 80 = .ok (.goto 20, 3) := by decide +kernel
theorem d_M_look_83 : decode b_M_look 83 = .ok (.iload_n 2, 1) := by decide +kernel
theorem d_M_look_84 : decode b_M_look 84 = .ok (.iload_n 3, 1) := by decide +kernel
theorem d_M_look_85 : decode b_M_look 85 = .ok (.iadd, 1) := by decide +kernel
theorem d_M_look_86 : decode b_M_look 86 = .ok (.sipush 1000, 3) := by decide +kernel
theorem d_M_look_89 : decode b_M_look 89 = .ok (.irem, 1) := by decide +kernel
theorem d_M_look_90 : decode b_M_look 90 = .ok (.invokestatic 52, 3) := by decide +kernel
theorem d_M_look_93 : decode b_M_look 93 = .ok (.iload_n 2, 1) := by decide +kernel
theorem d_M_look_94 : decode b_M_look 94 = .ok (.invokestatic 52, 3) := by decide +kernel
theorem d_M_look_97 : decode b_M_look 97 = .ok (.if_icmp .ne 12, 3) := by decide +kernel
theorem d_M_look_100 : decode b_M_look 100 = .ok (.iinc 3 1, 3) := by decide +kernel
theorem d_M_look_103 : decode b_M_look 103 = .ok (.iinc 4 1, 3) := by decide +kernel
theorem d_M_look_106 : decode b_M_look 106 = .ok (.goto (-52), 3) := by decide +kernel
theorem d_M_look_109 : decode b_M_look 109 = .ok (.iload_n 1, 1) := by decide +kernel
theorem d_M_look_110 : decode b_M_look 110 = .ok (.iconst 4, 1) := by decide +kernel
theorem d_M_look_111 : decode b_M_look 111 = .ok (.if_icmp .le 7, 3) := by decide +kernel
theorem d_M_look_114 : decode b_M_look 114 = .ok (.iconst (-1), 1) := by decide +kernel
theorem d_M_look_115 : decode b_M_look 115 = .ok (.goto 4, 3) := by decide +kernel
theorem d_M_look_118 : decode b_M_look 118 = .ok (.iload_n 3, 1) := by decide +kernel
theorem d_M_look_119 : decode b_M_look 119 = .ok (.ireturn, 1) := by decide +kernel
theorem d_M_isPosition_0 : decode b_M_isPosition 0 = .ok (.iload_n 0, 1) := by decide +kernel
theorem d_M_isPosition_1 : decode b_M_isPosition 1 = .ok (.ifCond .lt 14, 3) := by decide +kernel
theorem d_M_isPosition_4 : decode b_M_isPosition 4 = .ok (.iload_n 0, 1) := by decide +kernel
theorem d_M_isPosition_5 : decode b_M_isPosition 5 = .ok (.sipush 200, 3) := by decide +kernel
theorem d_M_isPosition_8 : decode b_M_isPosition 8 = .ok (.if_icmp .ge 7, 3) := by decide +kernel
theorem d_M_isPosition_11 : decode b_M_isPosition 11 = .ok (.iconst 1, 1) := by decide +kernel
theorem d_M_isPosition_12 : decode b_M_isPosition 12 = .ok (.goto 4, 3) := by decide +kernel
theorem d_M_isPosition_15 : decode b_M_isPosition 15 = .ok (.iconst 0, 1) := by decide +kernel
theorem d_M_isPosition_16 : decode b_M_isPosition 16 = .ok (.ireturn, 1) := by decide +kernel
theorem d_M_isWithin_0 : decode b_M_isWithin 0 = .ok (.lload_n 0, 1) := by decide +kernel
theorem d_M_isWithin_1 : decode b_M_isWithin 1 = .ok (.ldc2_w 56, 3) := by decide +kernel
theorem d_M_isWithin_4 : decode b_M_isWithin 4 = .ok (.lcmp, 1) := by decide +kernel
theorem d_M_isWithin_5 : decode b_M_isWithin 5 = .ok (.ifCond .lt 15, 3) := by decide +kernel
theorem d_M_isWithin_8 : decode b_M_isWithin 8 = .ok (.lload_n 0, 1) := by decide +kernel
theorem d_M_isWithin_9 : decode b_M_isWithin 9 = .ok (.ldc2_w 58, 3) := by decide +kernel
theorem d_M_isWithin_12 : decode b_M_isWithin 12 = .ok (.lcmp, 1) := by decide +kernel
theorem d_M_isWithin_13 : decode b_M_isWithin 13 = .ok (.ifCond .gt 7, 3) := by decide +kernel
theorem d_M_isWithin_16 : decode b_M_isWithin 16 = .ok (.iconst 1, 1) := by decide +kernel
theorem d_M_isWithin_17 : decode b_M_isWithin 17 = .ok (.goto 4, 3) := by decide +kernel
theorem d_M_isWithin_20 : decode b_M_isWithin 20 = .ok (.iconst 0, 1) := by decide +kernel
theorem d_M_isWithin_21 : decode b_M_isWithin 21 = .ok (.ireturn, 1) := by decide +kernel
theorem d_M_move_0 : decode b_M_move 0 = .ok (.iload_n 1, 1) := by decide +kernel
theorem d_M_move_1 : decode b_M_move 1 = .ok (.invokestatic 60, 3) := by decide +kernel
theorem d_M_move_4 : decode b_M_move 4 = .ok (.ifCond .eq 64, 3) := by decide +kernel
theorem d_M_move_7 : decode b_M_move 7 = .ok (.lload_n 2, 1) := by decide +kernel
theorem d_M_move_8 : decode b_M_move 8 = .ok (.ldc2_w 63, 3) := by decide +kernel
theorem d_M_move_11 : decode b_M_move 11 = .ok (.lcmp, 1) := by decide +kernel
theorem d_M_move_12 : decode b_M_move 12 = .ok (.ifCond .lt 56, 3) := by decide +kernel
theorem d_M_move_15 : decode b_M_move 15 = .ok (.lload_n 2, 1) := by decide +kernel
theorem d_M_move_16 : decode b_M_move 16 = .ok (.ldc2_w 65, 3) := by decide +kernel
theorem d_M_move_19 : decode b_M_move 19 = .ok (.lcmp, 1) := by decide +kernel
theorem d_M_move_20 : decode b_M_move 20 = .ok (.ifCond .gt 48, 3) := by decide +kernel
theorem d_M_move_23 : decode b_M_move 23 = .ok (.aload_n 0, 1) := by decide +kernel
theorem d_M_move_24 : decode b_M_move 24 = .ok (.iload_n 1, 1) := by decide +kernel
theorem d_M_move_25 : decode b_M_move 25 = .ok (.iconst 3, 1) := by decide +kernel
theorem d_M_move_26 : decode b_M_move 26 = .ok (.invokevirtual 29, 3) := by decide +kernel
theorem d_M_move_29 : decode b_M_move 29 = .ok (.lload_n 2, 1) := by decide +kernel
theorem d_M_move_30 : decode b_M_move 30 = .ok (.ladd, 1) := by decide +kernel
theorem d_M_move_31 : decode b_M_move 31 = .ok (.invokestatic 67, 3) := by decide +kernel
theorem d_M_move_34 : decode b_M_move 34 = .ok (.ifCond .eq 34, 3) := by decide +kernel
theorem d_M_move_37 : decode b_M_move 37 = .ok (.lload_n 2, 1) := by decide +kernel
theorem d_M_move_38 : decode b_M_move 38 = .ok (.lconst 0, 1) := by decide +kernel
theorem d_M_move_39 : decode b_M_move 39 = .ok (.lcmp, 1) := by decide +kernel
theorem d_M_move_40 : decode b_M_move 40 = .ok (.ifCond .ge 14, 3) := by decide +kernel
theorem d_M_move_43 : decode b_M_move 43 = .ok (.aload_n 0, 1) := by decide +kernel
theorem d_M_move_44 : decode b_M_move 44 = .ok (.iload_n 1, 1) := by decide +kernel
theorem d_M_move_45 : decode b_M_move 45 = .ok (.iconst 1, 1) := by decide +kernel
theorem d_M_move_46 : decode b_M_move 46 = .ok (.invokevirtual 29, 3) := by decide +kernel
theorem d_M_move_49 : decode b_M_move 49 = .ok (.lload_n 2, 1) := by decide +kernel
theorem d_M_move_50 : decode b_M_move 50 = .ok (.lsub, 1) := by decide +kernel
theorem d_M_move_51 : decode b_M_move 51 = .ok (.goto 11, 3) := by decide +kernel
theorem d_M_move_54 : decode b_M_move 54 = .ok (.aload_n 0, 1) := by decide +kernel
theorem d_M_move_55 : decode b_M_move 55 = .ok (.iload_n 1, 1) := by decide +kernel
theorem d_M_move_56 : decode b_M_move 56 = .ok (.iconst 2, 1) := by decide +kernel
theorem d_M_move_57 : decode b_M_move 57 = .ok (.invokevirtual 29, 3) := by decide +kernel
theorem d_M_move_60 : decode b_M_move 60 = .ok (.lload_n 2, 1) := by decide +kernel
theorem d_M_move_61 : decode b_M_move 61 = .ok (.ladd, 1) := by decide +kernel
theorem d_M_move_62 : decode b_M_move 62 = .ok (.invokestatic 67, 3) := by decide +kernel
theorem d_M_move_65 : decode b_M_move 65 = .ok (.ifCond .ne 5, 3) := by decide +kernel
theorem d_M_move_68 : decode b_M_move 68 = .ok (.iconst (-1), 1) := by decide +kernel
theorem d_M_move_69 : decode b_M_move 69 = .ok (.ireturn, 1) := by decide +kernel
theorem d_M_move_70 : decode b_M_move 70 = .ok (.lload_n 2, 1) := by decide +kernel
theorem d_M_move_71 : decode b_M_move 71 = .ok (.lconst 0, 1) := by decide +kernel
theorem d_M_move_72 : decode b_M_move 72 = .ok (.lcmp, 1) := by decide +kernel
theorem d_M_move_73 : decode b_M_move 73 = .ok (.ifCond .ne 5, 3) := by decide +kernel
theorem d_M_move_76 : decode b_M_move 76 = .ok (.iconst 0, 1) := by decide +kernel
theorem d_M_move_77 : decode b_M_move 77 = .ok (.ireturn, 1) := by decide +kernel
theorem d_M_move_78 : decode b_M_move 78 = .ok (.aload_n 0, 1) := by decide +kernel
theorem d_M_move_79 : decode b_M_move 79 = .ok (.getfield 13, 3) := by decide +kernel
theorem d_M_move_82 : decode b_M_move 82 = .ok (.aload_n 0, 1) := by decide +kernel
theorem d_M_move_83 : decode b_M_move 83 = .ok (.getfield 33, 3) := by decide +kernel
theorem d_M_move_86 : decode b_M_move 86 = .ok (.iload_n 1, 1) := by decide +kernel
theorem d_M_move_87 : decode b_M_move 87 = .ok (.iastore, 1) := by decide +kernel
theorem d_M_move_88 : decode b_M_move 88 = .ok (.aload_n 0, 1) := by decide +kernel
theorem d_M_move_89 : decode b_M_move 89 = .ok (.getfield 17, 3) := by decide +kernel
theorem d_M_move_92 : decode b_M_move 92 = .ok (.aload_n 0, 1) := by decide +kernel
theorem d_M_move_93 : decode b_M_move 93 = .ok (.getfield 33, 3) := by decide +kernel
theorem d_M_move_96 : decode b_M_move 96 = .ok (.lload_n 2, 1) := by decide +kernel
theorem d_M_move_97 : decode b_M_move 97 = .ok (.lastore, 1) := by decide +kernel
theorem d_M_move_98 : decode b_M_move 98 = .ok (.aload_n 0, 1) := by decide +kernel
theorem d_M_move_99 : decode b_M_move 99 = .ok (.dup, 1) := by decide +kernel
theorem d_M_move_100 : decode b_M_move 100 = .ok (.getfield 33, 3) := by decide +kernel
theorem d_M_move_103 : decode b_M_move 103 = .ok (.iconst 1, 1) := by decide +kernel
theorem d_M_move_104 : decode b_M_move 104 = .ok (.iadd, 1) := by decide +kernel
theorem d_M_move_105 : decode b_M_move 105 = .ok (.putfield 33, 3) := by decide +kernel
theorem d_M_move_108 : decode b_M_move 108 = .ok (.iconst 1, 1) := by decide +kernel
theorem d_M_move_109 : decode b_M_move 109 = .ok (.ireturn, 1) := by decide +kernel
theorem d_M_row_0 : decode b_M_row 0 = .ok (.iload_n 1, 1) := by decide +kernel
theorem d_M_row_1 : decode b_M_row 1 = .ok (.invokestatic 60, 3) := by decide +kernel
theorem d_M_row_4 : decode b_M_row 4 = .ok (.ifCond .eq 12, 3) := by decide +kernel
theorem d_M_row_7 : decode b_M_row 7 = .ok (.iload_n 2, 1) := by decide +kernel
theorem d_M_row_8 : decode b_M_row 8 = .ok (.ifCond .lt 8, 3) := by decide +kernel
theorem d_M_row_11 : decode b_M_row 11 = .ok (.iload_n 2, 1) := by decide +kernel
theorem d_M_row_12 : decode b_M_row 12 = .ok (.iconst 4, 1) := by decide +kernel
theorem d_M_row_13 : decode b_M_row 13 = .ok (.if_icmp .le 5, 3) := by decide +kernel
theorem d_M_row_16 : decode b_M_row 16 = .ok (.lconst 0, 1) := by decide +kernel
theorem d_M_row_17 : decode b_M_row 17 = .ok (.lreturn, 1) := by decide +kernel
theorem d_M_row_18 : decode b_M_row 18 = .ok (.lconst 0, 1) := by decide +kernel
theorem d_M_row_19 : decode b_M_row 19 = .ok (.lstore_n 3, 1) := by decide +kernel
theorem d_M_row_20 : decode b_M_row 20 = .ok (.lconst 0, 1) := by decide +kernel
theorem d_M_row_21 : decode b_M_row 21 = .ok (.lstore 5, 2) := by decide +kernel
theorem d_M_row_23 : decode b_M_row 23 = .ok (.lconst 0, 1) := by decide +kernel
theorem d_M_row_24 : decode b_M_row 24 = .ok (.lstore 7, 2) := by decide +kernel
theorem d_M_row_26 : decode b_M_row 26 = .ok (.iconst 0, 1) := by decide +kernel
theorem d_M_row_27 : decode b_M_row 27 = .ok (.istore 9, 2) := by decide +kernel
theorem d_M_row_29 : decode b_M_row 29 = .ok (.iload 9, 2) := by decide +kernel
theorem d_M_row_31 : decode b_M_row 31 = .ok (.aload_n 0, 1) := by decide +kernel
theorem d_M_row_32 : decode b_M_row 32 = .ok (.getfield 33, 3) := by decide +kernel
theorem d_M_row_35 : decode b_M_row 35 = .ok (.if_icmp .ge 81, 3) := by decide +kernel
theorem d_M_row_38 : decode b_M_row 38 = .ok (.aload_n 0, 1) := by decide +kernel
theorem d_M_row_39 : decode b_M_row 39 = .ok (.getfield 13, 3) := by decide +kernel
theorem d_M_row_42 : decode b_M_row 42 = .ok (.iload 9, 2) := by decide +kernel
theorem d_M_row_44 : decode b_M_row 44 = .ok (.iaload, 1) := by decide +kernel
theorem d_M_row_45 : decode b_M_row 45 = .ok (.iload_n 1, 1) := by decide +kernel
theorem d_M_row_46 : decode b_M_row 46 = .ok (.if_icmp .ne 64, 3) := by decide +kernel
theorem d_M_row_49 : decode b_M_row 49 = .ok (.aload_n 0, 1) := by decide +kernel
theorem d_M_row_50 : decode b_M_row 50 = .ok (.getfield 17, 3) := by decide +kernel
theorem d_M_row_53 : decode b_M_row 53 = .ok (.iload 9, 2) := by decide +kernel
theorem d_M_row_55 : decode b_M_row 55 = .ok (.laload, 1) := by decide +kernel
theorem d_M_row_56 : decode b_M_row 56 = .ok (.lconst 0, 1) := by decide +kernel
theorem d_M_row_57 : decode b_M_row 57 = .ok (.lcmp, 1) := by decide +kernel
theorem d_M_row_58 : decode b_M_row 58 = .ok (.ifCond .ge 15, 3) := by decide +kernel
theorem d_M_row_61 : decode b_M_row 61 = .ok (.lload_n 3, 1) := by decide +kernel
theorem d_M_row_62 : decode b_M_row 62 = .ok (.aload_n 0, 1) := by decide +kernel
theorem d_M_row_63 : decode b_M_row 63 = .ok (.getfield 17, 3) := by decide +kernel
theorem d_M_row_66 : decode b_M_row 66 = .ok (.iload 9, 2) := by decide +kernel
theorem d_M_row_68 : decode b_M_row 68 = .ok (.laload, 1) := by decide +kernel
theorem d_M_row_69 : decode b_M_row 69 = .ok (.lsub, 1) := by decide +kernel
theorem d_M_row_70 : decode b_M_row 70 = .ok (.goto 4, 3) := by decide +kernel
theorem d_M_row_73 : decode b_M_row 73 = .ok (.lload_n 3, 1) := by decide +kernel
theorem d_M_row_74 : decode b_M_row 74 = .ok (.lstore_n 3, 1) := by decide +kernel
theorem d_M_row_75 : decode b_M_row 75 = .ok (.aload_n 0, 1) := by decide +kernel
theorem d_M_row_76 : decode b_M_row 76 = .ok (.getfield 17, 3) := by decide +kernel
theorem d_M_row_79 : decode b_M_row 79 = .ok (.iload 9, 2) := by decide +kernel
theorem d_M_row_81 : decode b_M_row 81 = .ok (.laload, 1) := by decide +kernel
theorem d_M_row_82 : decode b_M_row 82 = .ok (.lconst 0, 1) := by decide +kernel
theorem d_M_row_83 : decode b_M_row 83 = .ok (.lcmp, 1) := by decide +kernel
theorem d_M_row_84 : decode b_M_row 84 = .ok (.ifCond .le 16, 3) := by decide +kernel
theorem d_M_row_87 : decode b_M_row 87 = .ok (.lload 5, 2) := by decide +kernel
theorem d_M_row_89 : decode b_M_row 89 = .ok (.aload_n 0, 1) := by decide +kernel
theorem d_M_row_90 : decode b_M_row 90 = .ok (.getfield 17, 3) := by decide +kernel
theorem d_M_row_93 : decode b_M_row 93 = .ok (.iload 9, 2) := by decide +kernel
theorem d_M_row_95 : decode b_M_row 95 = .ok (.laload, 1) := by decide +kernel
theorem d_M_row_96 : decode b_M_row 96 = .ok (.ladd, 1) := by decide +kernel
theorem d_M_row_97 : decode b_M_row 97 = .ok (.goto 5, 3) := by decide +kernel
theorem d_M_row_100 : decode b_M_row 100 = .ok (.lload 5, 2) := by decide +kernel
theorem d_M_row_102 : decode b_M_row 102 = .ok (.lstore 5, 2) := by decide +kernel
theorem d_M_row_104 : decode b_M_row 104 = .ok (.lload 7, 2) := by decide +kernel
theorem d_M_row_106 : decode b_M_row 106 = .ok (.lconst 1, 1) := by decide +kernel
theorem d_M_row_107 : decode b_M_row 107 = .ok (.ladd, 1) := by decide +kernel
theorem d_M_row_108 : decode b_M_row 108 = .ok (.lstore 7, 2) := by decide +kernel
theorem d_M_row_110 : decode b_M_row 110 = .ok (.iinc 9 1, 3) := by decide +kernel
theorem d_M_row_113 : decode b_M_row 113 = .ok (.goto (-84), 3) := by decide +kernel
theorem d_M_row_116 : decode b_M_row 116 = .ok (.iload_n 2, 1) := by decide +kernel
theorem d_M_row_117 : decode b_M_row 117 = .ok (.ifCond .ne 12, 3) := by decide +kernel
theorem d_M_row_120 : decode b_M_row 120 = .ok (.aload_n 0, 1) := by decide +kernel
theorem d_M_row_121 : decode b_M_row 121 = .ok (.getfield 7, 3) := by decide +kernel
theorem d_M_row_124 : decode b_M_row 124 = .ok (.iload_n 1, 1) := by decide +kernel
theorem d_M_row_125 : decode b_M_row 125 = .ok (.laload, 1) := by decide +kernel
theorem d_M_row_126 : decode b_M_row 126 = .ok (.goto 43, 3) := by decide +kernel
theorem d_M_row_129 : decode b_M_row 129 = .ok (.iload_n 2, 1) := by decide +kernel
theorem d_M_row_130 : decode b_M_row 130 = .ok (.iconst 1, 1) := by decide +kernel
theorem d_M_row_131 : decode b_M_row 131 = .ok (.if_icmp .ne 7, 3) := by decide +kernel
theorem d_M_row_134 : decode b_M_row 134 = .ok (.lload_n 3, 1) := by decide +kernel
theorem d_M_row_135 : decode b_M_row 135 = .ok (.goto 34, 3) := by decide +kernel
theorem d_M_row_138 : decode b_M_row 138 = .ok (.iload_n 2, 1) := by decide +kernel
theorem d_M_row_139 : decode b_M_row 139 = .ok (.iconst 2, 1) := by decide +kernel
theorem d_M_row_140 : decode b_M_row 140 = .ok (.if_icmp .ne 8, 3) := by decide +kernel
theorem d_M_row_143 : decode b_M_row 143 = .ok (.lload 5, 2) := by decide +kernel
theorem d_M_row_145 : decode b_M_row 145 = .ok (.goto 24, 3) := by decide +kernel
theorem d_M_row_148 : decode b_M_row 148 = .ok (.iload_n 2, 1) := by decide +kernel
theorem d_M_row_149 : decode b_M_row 149 = .ok (.iconst 3, 1) := by decide +kernel
theorem d_M_row_150 : decode b_M_row 150 = .ok (.if_icmp .ne 17, 3) := by decide +kernel
theorem d_M_row_153 : decode b_M_row 153 = .ok (.aload_n 0, 1) := by decide +kernel
theorem d_M_row_154 : decode b_M_row 154 = .ok (.getfield 7, 3) := by decide +kernel
theorem d_M_row_157 : decode b_M_row 157 = .ok (.iload_n 1, 1) := by decide +kernel
theorem d_M_row_158 : decode b_M_row 158 = .ok (.laload, 1) := by decide +kernel
theorem d_M_row_159 : decode b_M_row 159 = .ok (.lload_n 3, 1) := by decide +kernel
theorem d_M_row_160 : decode b_M_row 160 = .ok (.lsub, 1) := by decide +kernel
theorem d_M_row_161 : decode b_M_row 161 = .ok (.lload 5, 2) := by decide +kernel
theorem d_M_row_163 : decode b_M_row 163 = .ok (.ladd, 1) := by decide +kernel
theorem d_M_row_164 : decode b_M_row 164 = .ok (.goto 5, 3) := by decide +kernel
theorem d_M_row_167 : decode b_M_row 167 = .ok (.lload 7, 2) := by decide +kernel
theorem d_M_row_169 : decode b_M_row 169 = .ok (.lreturn, 1) := by decide +kernel
theorem d_M_isTold_0 : decode b_M_isTold 0 = .ok (.iload_n 1, 1) := by decide +kernel
theorem d_M_isTold_1 : decode b_M_isTold 1 = .ok (.invokestatic 60, 3) := by decide +kernel
theorem d_M_isTold_4 : decode b_M_isTold 4 = .ok (.ifCond .eq 29, 3) := by decide +kernel
theorem d_M_isTold_7 : decode b_M_isTold 7 = .ok (.aload_n 0, 1) := by decide +kernel
theorem d_M_isTold_8 : decode b_M_isTold 8 = .ok (.getfield 7, 3) := by decide +kernel
theorem d_M_isTold_11 : decode b_M_isTold 11 = .ok (.iload_n 1, 1) := by decide +kernel
theorem d_M_isTold_12 : decode b_M_isTold 12 = .ok (.laload, 1) := by decide +kernel
theorem d_M_isTold_13 : decode b_M_isTold 13 = .ok (.lconst 0, 1) := by decide +kernel
theorem d_M_isTold_14 : decode b_M_isTold 14 = .ok (.lcmp, 1) := by decide +kernel
theorem d_M_isTold_15 : decode b_M_isTold 15 = .ok (.ifCond .ne 14, 3) := by decide +kernel
theorem d_M_isTold_18 : decode b_M_isTold 18 = .ok (.aload_n 0, 1) := by decide +kernel
theorem d_M_isTold_19 : decode b_M_isTold 19 = .ok (.iload_n 1, 1) := by decide +kernel
theorem d_M_isTold_20 : decode b_M_isTold 20 = .ok (.iconst 4, 1) := by decide +kernel
theorem d_M_isTold_21 : decode b_M_isTold 21 = .ok (.invokevirtual 29, 3) := by decide +kernel
theorem d_M_isTold_24 : decode b_M_isTold 24 = .ok (.lconst 0, 1) := by decide +kernel
theorem d_M_isTold_25 : decode b_M_isTold 25 = .ok (.lcmp, 1) := by decide +kernel
theorem d_M_isTold_26 : decode b_M_isTold 26 = .ok (.ifCond .le 7, 3) := by decide +kernel
theorem d_M_isTold_29 : decode b_M_isTold 29 = .ok (.iconst 1, 1) := by decide +kernel
theorem d_M_isTold_30 : decode b_M_isTold 30 = .ok (.goto 4, 3) := by decide +kernel
theorem d_M_isTold_33 : decode b_M_isTold 33 = .ok (.iconst 0, 1) := by decide +kernel
theorem d_M_isTold_34 : decode b_M_isTold 34 = .ok (.ireturn, 1) := by decide +kernel
theorem d_M_put_0 : decode b_M_put 0 = .ok (.aload_n 0, 1) := by decide +kernel
theorem d_M_put_1 : decode b_M_put 1 = .ok (.getfield 20, 3) := by decide +kernel
theorem d_M_put_4 : decode b_M_put 4 = .ok (.aload_n 0, 1) := by decide +kernel
theorem d_M_put_5 : decode b_M_put 5 = .ok (.getfield 71, 3) := by decide +kernel
theorem d_M_put_8 : decode b_M_put 8 = .ok (.iload_n 1, 1) := by decide +kernel
theorem d_M_put_9 : decode b_M_put 9 = .ok (.iastore, 1) := by decide +kernel
theorem d_M_put_10 : decode b_M_put 10 = .ok (.aload_n 0, 1) := by decide +kernel
theorem d_M_put_11 : decode b_M_put 11 = .ok (.dup, 1) := by decide +kernel
theorem d_M_put_12 : decode b_M_put 12 = .ok (.getfield 71, 3) := by decide +kernel
theorem d_M_put_15 : decode b_M_put 15 = .ok (.iconst 1, 1) := by decide +kernel
theorem d_M_put_16 : decode b_M_put 16 = .ok (.iadd, 1) := by decide +kernel
theorem d_M_put_17 : decode b_M_put 17 = .ok (.putfield 71, 3) := by decide +kernel
theorem d_M_put_20 : decode b_M_put 20 = .ok (.return_, 1) := by decide +kernel
theorem d_M_number_0 : decode b_M_number 0 = .ok (.lload_n 1, 1) := by decide +kernel
theorem d_M_number_1 : decode b_M_number 1 = .ok (.lconst 0, 1) := by decide +kernel
theorem d_M_number_2 : decode b_M_number 2 = .ok (.lcmp, 1) := by decide +kernel
theorem d_M_number_3 : decode b_M_number 3 = .ok (.ifCond .ge 9, 3) := by decide +kernel
theorem d_M_number_6 : decode b_M_number 6 = .ok (.aload_n 0, 1) := by decide +kernel
theorem d_M_number_7 : decode b_M_number 7 = .ok (.bipush 45, 2) := by decide +kernel
theorem d_M_number_9 : decode b_M_number 9 = .ok (.invokevirtual 74, 3) := by decide +kernel
theorem d_M_number_12 : decode b_M_number 12 = .ok (.iconst 1, 1) := by decide +kernel
theorem d_M_number_13 : decode b_M_number 13 = .ok (.istore_n 3, 1) := by decide +kernel
theorem d_M_number_14 : decode b_M_number 14 = .ok (.lload_n 1, 1) := by decide +kernel
theorem d_M_number_15 : decode b_M_number 15 = .ok (.ldc2_w 78, 3) := by decide +kernel
theorem d_M_number_18 : decode b_M_number 18 = .ok (.ldiv, 1) := by decide +kernel
theorem d_M_number_19 : decode b_M_number 19 = .ok (.lstore 4, 2) := by decide +kernel
theorem d_M_number_21 : decode b_M_number 21 = .ok (.lload 4, 2) := by decide +kernel
theorem d_M_number_23 : decode b_M_number 23 = .ok (.lconst 0, 1) := by decide +kernel
theorem d_M_number_24 : decode b_M_number 24 = .ok (.lcmp, 1) := by decide +kernel
theorem d_M_number_25 : decode b_M_number 25 = .ok (.ifCond .eq 17, 3) := by decide +kernel
theorem d_M_number_28 : decode b_M_number 28 = .ok (.iinc 3 1, 3) := by decide +kernel
theorem d_M_number_31 : decode b_M_number 31 = .ok (.lload 4, 2) := by decide +kernel
theorem d_M_number_33 : decode b_M_number 33 = .ok (.ldc2_w 78, 3) := by decide +kernel
theorem d_M_number_36 : decode b_M_number 36 = .ok (.ldiv, 1) := by decide +kernel
theorem d_M_number_37 : decode b_M_number 37 = .ok (.lstore 4, 2) := by decide +kernel
theorem d_M_number_39 : decode b_M_number 39 = .ok (.goto (-18), 3) := by decide +kernel
theorem d_M_number_42 : decode b_M_number 42 = .ok (.iload_n 3, 1) := by decide +kernel
theorem d_M_number_43 : decode b_M_number 43 = .ok (.iconst 1, 1) := by decide +kernel
theorem d_M_number_44 : decode b_M_number 44 = .ok (.isub, 1) := by decide +kernel
theorem d_M_number_45 : decode b_M_number 45 = .ok (.istore 4, 2) := by decide +kernel
theorem d_M_number_47 : decode b_M_number 47 = .ok (.iload 4, 2) := by decide +kernel
theorem d_M_number_49 : decode b_M_number 49 = .ok (.ifCond .lt 67, 3) := by decide +kernel
theorem d_M_number_52 : decode b_M_number 52 = .ok (.lload_n 1, 1) := by decide +kernel
theorem d_M_number_53 : decode b_M_number 53 = .ok (.lstore 5, 2) := by decide +kernel
theorem d_M_number_55 : decode b_M_number 55 = .ok (.iconst 0, 1) := by decide +kernel
theorem d_M_number_56 : decode b_M_number 56 = .ok (.istore 7, 2) := by decide +kernel
theorem d_M_number_58 : decode b_M_number 58 = .ok (.iload 7, 2) := by decide +kernel
theorem d_M_number_60 : decode b_M_number 60 = .ok (.iload 4, 2) := by decide +kernel
theorem d_M_number_62 : decode b_M_number 62 = .ok (.if_icmp .ge 17, 3) := by decide +kernel
theorem d_M_number_65 : decode b_M_number 65 = .ok (.lload 5, 2) := by decide +kernel
theorem d_M_number_67 : decode b_M_number 67 = .ok (.ldc2_w 78, 3) := by decide +kernel
theorem d_M_number_70 : decode b_M_number 70 = .ok (.ldiv, 1) := by decide +kernel
theorem d_M_number_71 : decode b_M_number 71 = .ok (.lstore 5, 2) := by decide +kernel
theorem d_M_number_73 : decode b_M_number 73 = .ok (.iinc 7 1, 3) := by decide +kernel
theorem d_M_number_76 : decode b_M_number 76 = .ok (.goto (-18), 3) := by decide +kernel
theorem d_M_number_79 : decode b_M_number 79 = .ok (.lload 5, 2) := by decide +kernel
theorem d_M_number_81 : decode b_M_number 81 = .ok (.ldc2_w 78, 3) := by decide +kernel
theorem d_M_number_84 : decode b_M_number 84 = .ok (.lrem, 1) := by decide +kernel
theorem d_M_number_85 : decode b_M_number 85 = .ok (.lstore 7, 2) := by decide +kernel
theorem d_M_number_87 : decode b_M_number 87 = .ok (.aload_n 0, 1) := by decide +kernel
theorem d_M_number_88 : decode b_M_number 88 = .ok (.bipush 48, 2) := by decide +kernel
theorem d_M_number_90 : decode b_M_number 90 = .ok (.lload 7, 2) := by decide +kernel
theorem d_M_number_92 : decode b_M_number 92 = .ok (.lconst 0, 1) := by decide +kernel
theorem d_M_number_93 : decode b_M_number 93 = .ok (.lcmp, 1) := by decide +kernel
theorem d_M_number_94 : decode b_M_number 94 = .ok (.ifCond .ge 9, 3) := by decide +kernel
theorem d_M_number_97 : decode b_M_number 97 = .ok (.lload 7, 2) := by decide +kernel
theorem d_M_number_99 : decode b_M_number 99 = .ok (.lneg, 1) := by decide +kernel
theorem d_M_number_100 : decode b_M_number 100 = .ok (.goto 5, 3) := by decide +kernel
theorem d_M_number_103 : decode b_M_number 103 = .ok (.lload 7, 2) := by decide +kernel
theorem d_M_number_105 : decode b_M_number 105 = .ok (.l2i, 1) := by decide +kernel
theorem d_M_number_106 : decode b_M_number 106 = .ok (.iadd, 1) := by decide +kernel
theorem d_M_number_107 : decode b_M_number 107 = .ok (.invokevirtual 74, 3) := by decide +kernel
theorem d_M_number_110 : decode b_M_number 110 = .ok (.iinc 4 (-1), 3) := by decide +kernel
theorem d_M_number_113 : decode b_M_number 113 = .ok (.goto (-66), 3) := by decide +kernel
theorem d_M_number_116 : decode b_M_number 116 = .ok (.return_, 1) := by decide +kernel
theorem d_M_write_0 : decode b_M_write 0 = .ok (.iload_n 1, 1) := by decide +kernel
theorem d_M_write_1 : decode b_M_write 1 = .ok (.invokestatic 60, 3) := by decide +kernel
theorem d_M_write_4 : decode b_M_write 4 = .ok (.ifCond .ne 5, 3) := by decide +kernel
theorem d_M_write_7 : decode b_M_write 7 = .ok (.iconst (-1), 1) := by decide +kernel
theorem d_M_write_8 : decode b_M_write 8 = .ok (.ireturn, 1) := by decide +kernel
theorem d_M_write_9 : decode b_M_write 9 = .ok (.aload_n 0, 1) := by decide +kernel
theorem d_M_write_10 : decode b_M_write 10 = .ok (.iconst 0, 1) := by decide +kernel
theorem d_M_write_11 : decode b_M_write 11 = .ok (.putfield 71, 3) := by decide +kernel
theorem d_M_write_14 : decode b_M_write 14 = .ok (.iconst 0, 1) := by decide +kernel
theorem d_M_write_15 : decode b_M_write 15 = .ok (.istore_n 2, 1) := by decide +kernel
theorem d_M_write_16 : decode b_M_write 16 = .ok (.iload_n 2, 1) := by decide +kernel
theorem d_M_write_17 : decode b_M_write 17 = .ok (.iconst 5, 1) := by decide +kernel
theorem d_M_write_18 : decode b_M_write 18 = .ok (.if_icmp .ge 29, 3) := by decide +kernel
theorem d_M_write_21 : decode b_M_write 21 = .ok (.iload_n 2, 1) := by decide +kernel
theorem d_M_write_22 : decode b_M_write 22 = .ok (.ifCond .le 9, 3) := by decide +kernel
theorem d_M_write_25 : decode b_M_write 25 = .ok (.aload_n 0, 1) := by decide +kernel
theorem d_M_write_26 : decode b_M_write 26 = .ok (.bipush 32, 2) := by decide +kernel
theorem d_M_write_28 : decode b_M_write 28 = .ok (.invokevirtual 74, 3) := by decide +kernel
theorem d_M_write_31 : decode b_M_write 31 = .ok (.aload_n 0, 1) := by decide +kernel
theorem d_M_write_32 : decode b_M_write 32 = .ok (.aload_n 0, 1) := by decide +kernel
theorem d_M_write_33 : decode b_M_write 33 = .ok (.iload_n 1, 1) := by decide +kernel
theorem d_M_write_34 : decode b_M_write 34 = .ok (.iload_n 2, 1) := by decide +kernel
theorem d_M_write_35 : decode b_M_write 35 = .ok (.invokevirtual 29, 3) := by decide +kernel
theorem d_M_write_38 : decode b_M_write 38 = .ok (.invokevirtual 80, 3) := by decide +kernel
theorem d_M_write_41 : decode b_M_write 41 = .ok (.iinc 2 1, 3) := by decide +kernel
theorem d_M_write_44 : decode b_M_write 44 = .ok (.goto (-28), 3) := by decide +kernel
theorem d_M_write_47 : decode b_M_write 47 = .ok (.aload_n 0, 1) := by decide +kernel
theorem d_M_write_48 : decode b_M_write 48 = .ok (.getfield 71, 3) := by decide +kernel
theorem d_M_write_51 : decode b_M_write 51 = .ok (.ireturn, 1) := by decide +kernel
theorem d_M_at_0 : decode b_M_at 0 = .ok (.iload_n 1, 1) := by decide +kernel
theorem d_M_at_1 : decode b_M_at 1 = .ok (.ifCond .lt 20, 3) := by decide +kernel
theorem d_M_at_4 : decode b_M_at 4 = .ok (.iload_n 1, 1) := by decide +kernel
theorem d_M_at_5 : decode b_M_at 5 = .ok (.aload_n 0, 1) := by decide +kernel
theorem d_M_at_6 : decode b_M_at 6 = .ok (.getfield 71, 3) := by decide +kernel
theorem d_M_at_9 : decode b_M_at 9 = .ok (.if_icmp .ge 12, 3) := by decide +kernel
theorem d_M_at_12 : decode b_M_at 12 = .ok (.aload_n 0, 1) := by decide +kernel
theorem d_M_at_13 : decode b_M_at 13 = .ok (.getfield 20, 3) := by decide +kernel
theorem d_M_at_16 : decode b_M_at 16 = .ok (.iload_n 1, 1) := by decide +kernel
theorem d_M_at_17 : decode b_M_at 17 = .ok (.iaload, 1) := by decide +kernel
theorem d_M_at_18 : decode b_M_at 18 = .ok (.goto 4, 3) := by decide +kernel
theorem d_M_at_21 : decode b_M_at 21 = .ok (.iconst (-1), 1) := by decide +kernel
theorem d_M_at_22 : decode b_M_at 22 = .ok (.ireturn, 1) := by decide +kernel
end
section
/-! the instructions, read -/
theorem d_law_0 : decode code 0 = .ok (.new 7, 3) := by decide +kernel
theorem d_law_3 : decode code 3 = .ok (.dup, 1) := by decide +kernel
theorem d_law_4 : decode code 4 = .ok (.invokespecial 9, 3) := by decide +kernel
theorem d_law_7 : decode code 7 = .ok (.astore_n 1, 1) := by decide +kernel
theorem d_law_8 : decode code 8 = .ok (.new 10, 3) := by decide +kernel
theorem d_law_11 : decode code 11 = .ok (.dup, 1) := by decide +kernel
theorem d_law_12 : decode code 12 = .ok (.invokespecial 12, 3) := by decide +kernel
theorem d_law_15 : decode code 15 = .ok (.astore_n 2, 1) := by decide +kernel
theorem d_law_16 : decode code 16 = .ok (.iconst 0, 1) := by decide +kernel
theorem d_law_17 : decode code 17 = .ok (.istore_n 3, 1) := by decide +kernel
theorem d_law_18 : decode code 18 = .ok (.iload_n 3, 1) := by decide +kernel
theorem d_law_19 : decode code 19 = .ok (.aload_n 0, 1) := by decide +kernel
theorem d_law_20 : decode code 20 = .ok (.arraylength, 1) := by decide +kernel
theorem d_law_21 : decode code 21 = .ok (.iconst 4, 1) := by decide +kernel
theorem d_law_22 : decode code 22 = .ok (.isub, 1) := by decide +kernel
theorem d_law_23 : decode code 23 = .ok (.if_icmp .gt 351, 3) := by decide +kernel
theorem d_law_26 : decode code 26 = .ok (.aload_n 0, 1) := by decide +kernel
theorem d_law_27 : decode code 27 = .ok (.iload_n 3, 1) := by decide +kernel
theorem d_law_28 : decode code 28 = .ok (.iaload, 1) := by decide +kernel
theorem d_law_29 : decode code 29 = .ok (.bipush 15, 2) := by decide +kernel
theorem d_law_31 : decode code 31 = .ok (.iand, 1) := by decide +kernel
theorem d_law_32 : decode code 32 = .ok (.tableswitch 336 0 8 #[52, 65, 88, 147, 170, 233, 267, 290, 313], 52) := by decide +kernel
theorem d_law_84 : decode code 84 = .ok (.aload_n 1, 1) := by decide +kernel
theorem d_law_85 : decode code 85 = .ok (.invokevirtual 13, 3) := by decide +kernel
theorem d_law_88 : decode code 88 = .ok (.aload_n 2, 1) := by decide +kernel
theorem d_law_89 : decode code 89 = .ok (.invokevirtual 17, 3) := by decide +kernel
theorem d_law_92 : decode code 92 = .ok (.if_icmp .eq 276, 3) := by decide +kernel
theorem d_law_95 : decode code 95 = .ok (.iconst 0, 1) := by decide +kernel
theorem d_law_96 : decode code 96 = .ok (.ireturn, 1) := by decide +kernel
theorem d_law_97 : decode code 97 = .ok (.aload_n 1, 1) := by decide +kernel
theorem d_law_98 : decode code 98 = .ok (.aload_n 0, 1) := by decide +kernel
theorem d_law_99 : decode code 99 = .ok (.iload_n 3, 1) := by decide +kernel
theorem d_law_100 : decode code 100 = .ok (.iconst 1, 1) := by decide +kernel
theorem d_law_101 : decode code 101 = .ok (.iadd, 1) := by decide +kernel
theorem d_law_102 : decode code 102 = .ok (.iaload, 1) := by decide +kernel
theorem d_law_103 : decode code 103 = .ok (.invokevirtual 18, 3) := by decide +kernel
theorem d_law_106 : decode code 106 = .ok (.aload_n 2, 1) := by decide +kernel
theorem d_law_107 : decode code 107 = .ok (.aload_n 0, 1) := by decide +kernel
theorem d_law_108 : decode code 108 = .ok (.iload_n 3, 1) := by decide +kernel
theorem d_law_109 : decode code 109 = .ok (.iconst 1, 1) := by decide +kernel
theorem d_law_110 : decode code 110 = .ok (.iadd, 1) := by decide +kernel
theorem d_law_111 : decode code 111 = .ok (.iaload, 1) := by decide +kernel
theorem d_law_112 : decode code 112 = .ok (.invokevirtual 22, 3) := by decide +kernel
theorem d_law_115 : decode code 115 = .ok (.if_icmp .eq 253, 3) := by decide +kernel
theorem d_law_118 : decode code 118 = .ok (.iconst 0, 1) := by decide +kernel
theorem d_law_119 : decode code 119 = .ok (.ireturn, 1) := by decide +kernel
theorem d_law_120 : decode code 120 = .ok (.aload_n 1, 1) := by decide +kernel
theorem d_law_121 : decode code 121 = .ok (.aload_n 0, 1) := by decide +kernel
theorem d_law_122 : decode code 122 = .ok (.iload_n 3, 1) := by decide +kernel
theorem d_law_123 : decode code 123 = .ok (.iconst 1, 1) := by decide +kernel
theorem d_law_124 : decode code 124 = .ok (.iadd, 1) := by decide +kernel
theorem d_law_125 : decode code 125 = .ok (.iaload, 1) := by decide +kernel
theorem d_law_126 : decode code 126 = .ok (.aload_n 0, 1) := by decide +kernel
theorem d_law_127 : decode code 127 = .ok (.iload_n 3, 1) := by decide +kernel
theorem d_law_128 : decode code 128 = .ok (.iconst 2, 1) := by decide +kernel
theorem d_law_129 : decode code 129 = .ok (.iadd, 1) := by decide +kernel
theorem d_law_130 : decode code 130 = .ok (.iaload, 1) := by decide +kernel
theorem d_law_131 : decode code 131 = .ok (.aload_n 0, 1) := by decide +kernel
theorem d_law_132 : decode code 132 = .ok (.iload_n 3, 1) := by decide +kernel
theorem d_law_133 : decode code 133 = .ok (.iconst 3, 1) := by decide +kernel
theorem d_law_134 : decode code 134 = .ok (.iadd, 1) := by decide +kernel
theorem d_law_135 : decode code 135 = .ok (.iaload, 1) := by decide +kernel
theorem d_law_136 : decode code 136 = .ok (.ifCond .eq 7, 3) := by decide +kernel
theorem d_law_139 : decode code 139 = .ok (.iconst 1, 1) := by decide +kernel
theorem d_law_140 : decode code 140 = .ok (.goto 4, 3) := by decide +kernel
theorem d_law_143 : decode code 143 = .ok (.iconst 0, 1) := by decide +kernel
theorem d_law_144 : decode code 144 = .ok (.invokevirtual 23, 3) := by decide +kernel
theorem d_law_147 : decode code 147 = .ok (.aload_n 2, 1) := by decide +kernel
theorem d_law_148 : decode code 148 = .ok (.aload_n 0, 1) := by decide +kernel
theorem d_law_149 : decode code 149 = .ok (.iload_n 3, 1) := by decide +kernel
theorem d_law_150 : decode code 150 = .ok (.iconst 1, 1) := by decide +kernel
theorem d_law_151 : decode code 151 = .ok (.iadd, 1) := by decide +kernel
theorem d_law_152 : decode code 152 = .ok (.iaload, 1) := by decide +kernel
theorem d_law_153 : decode code 153 = .ok (.aload_n 0, 1) := by decide +kernel
theorem d_law_154 : decode code 154 = .ok (.iload_n 3, 1) := by decide +kernel
theorem d_law_155 : decode code 155 = .ok (.iconst 2, 1) := by decide +kernel
theorem d_law_156 : decode code 156 = .ok (.iadd, 1) := by decide +kernel
theorem d_law_157 : decode code 157 = .ok (.iaload, 1) := by decide +kernel
theorem d_law_158 : decode code 158 = .ok (.aload_n 0, 1) := by decide +kernel
theorem d_law_159 : decode code 159 = .ok (.iload_n 3, 1) := by decide +kernel
theorem d_law_160 : decode code 160 = .ok (.iconst 3, 1) := by decide +kernel
theorem d_law_161 : decode code 161 = .ok (.iadd, 1) := by decide +kernel
theorem d_law_162 : decode code 162 = .ok (.iaload, 1) := by decide +kernel
theorem d_law_163 : decode code 163 = .ok (.ifCond .eq 7, 3) := by decide +kernel
theorem d_law_166 : decode code 166 = .ok (.iconst 1, 1) := by decide +kernel
theorem d_law_167 : decode code 167 = .ok (.goto 4, 3) := by decide +kernel
theorem d_law_170 : decode code 170 = .ok (.iconst 0, 1) := by decide +kernel
theorem d_law_171 : decode code 171 = .ok (.invokevirtual 27, 3) := by decide +kernel
theorem d_law_174 : decode code 174 = .ok (.if_icmp .eq 194, 3) := by decide +kernel
theorem d_law_177 : decode code 177 = .ok (.iconst 0, 1) := by decide +kernel
theorem d_law_178 : decode code 178 = .ok (.ireturn, 1) := by decide +kernel
theorem d_law_179 : decode code 179 = .ok (.aload_n 1, 1) := by decide +kernel
theorem d_law_180 : decode code 180 = .ok (.aload_n 0, 1) := by decide +kernel
theorem d_law_181 : decode code 181 = .ok (.iload_n 3, 1) := by decide +kernel
theorem d_law_182 : decode code 182 = .ok (.iconst 1, 1) := by decide +kernel
theorem d_law_183 : decode code 183 = .ok (.iadd, 1) := by decide +kernel
theorem d_law_184 : decode code 184 = .ok (.iaload, 1) := by decide +kernel
theorem d_law_185 : decode code 185 = .ok (.invokevirtual 28, 3) := by decide +kernel
theorem d_law_188 : decode code 188 = .ok (.aload_n 2, 1) := by decide +kernel
theorem d_law_189 : decode code 189 = .ok (.aload_n 0, 1) := by decide +kernel
theorem d_law_190 : decode code 190 = .ok (.iload_n 3, 1) := by decide +kernel
theorem d_law_191 : decode code 191 = .ok (.iconst 1, 1) := by decide +kernel
theorem d_law_192 : decode code 192 = .ok (.iadd, 1) := by decide +kernel
theorem d_law_193 : decode code 193 = .ok (.iaload, 1) := by decide +kernel
theorem d_law_194 : decode code 194 = .ok (.invokevirtual 31, 3) := by decide +kernel
theorem d_law_197 : decode code 197 = .ok (.if_icmp .eq 171, 3) := by decide +kernel
theorem d_law_200 : decode code 200 = .ok (.iconst 0, 1) := by decide +kernel
theorem d_law_201 : decode code 201 = .ok (.ireturn, 1) := by decide +kernel
theorem d_law_202 : decode code 202 = .ok (.aload_n 1, 1) := by decide +kernel
theorem d_law_203 : decode code 203 = .ok (.aload_n 0, 1) := by decide +kernel
theorem d_law_204 : decode code 204 = .ok (.iload_n 3, 1) := by decide +kernel
theorem d_law_205 : decode code 205 = .ok (.iconst 1, 1) := by decide +kernel
theorem d_law_206 : decode code 206 = .ok (.iadd, 1) := by decide +kernel
theorem d_law_207 : decode code 207 = .ok (.iaload, 1) := by decide +kernel
theorem d_law_208 : decode code 208 = .ok (.aload_n 0, 1) := by decide +kernel
theorem d_law_209 : decode code 209 = .ok (.iload_n 3, 1) := by decide +kernel
theorem d_law_210 : decode code 210 = .ok (.iconst 2, 1) := by decide +kernel
theorem d_law_211 : decode code 211 = .ok (.iadd, 1) := by decide +kernel
theorem d_law_212 : decode code 212 = .ok (.iaload, 1) := by decide +kernel
theorem d_law_213 : decode code 213 = .ok (.i2l, 1) := by decide +kernel
theorem d_law_214 : decode code 214 = .ok (.bipush 32, 2) := by decide +kernel
theorem d_law_216 : decode code 216 = .ok (.lshl, 1) := by decide +kernel
theorem d_law_217 : decode code 217 = .ok (.aload_n 0, 1) := by decide +kernel
theorem d_law_218 : decode code 218 = .ok (.iload_n 3, 1) := by decide +kernel
theorem d_law_219 : decode code 219 = .ok (.iconst 3, 1) := by decide +kernel
theorem d_law_220 : decode code 220 = .ok (.iadd, 1) := by decide +kernel
theorem d_law_221 : decode code 221 = .ok (.iaload, 1) := by decide +kernel
theorem d_law_222 : decode code 222 = .ok (.i2l, 1) := by decide +kernel
theorem d_law_223 : decode code 223 = .ok (.ldc2_w 32, 3) := by decide +kernel
theorem d_law_226 : decode code 226 = .ok (.land, 1) := by decide +kernel
theorem d_law_227 : decode code 227 = .ok (.lor, 1) := by decide +kernel
theorem d_law_228 : decode code 228 = .ok (.invokevirtual 34, 3) := by decide +kernel
theorem d_law_231 : decode code 231 = .ok (.aload_n 2, 1) := by decide +kernel
theorem d_law_232 : decode code 232 = .ok (.aload_n 0, 1) := by decide +kernel
theorem d_law_233 : decode code 233 = .ok (.iload_n 3, 1) := by decide +kernel
theorem d_law_234 : decode code 234 = .ok (.iconst 1, 1) := by decide +kernel
theorem d_law_235 : decode code 235 = .ok (.iadd, 1) := by decide +kernel
theorem d_law_236 : decode code 236 = .ok (.iaload, 1) := by decide +kernel
theorem d_law_237 : decode code 237 = .ok (.aload_n 0, 1) := by decide +kernel
theorem d_law_238 : decode code 238 = .ok (.iload_n 3, 1) := by decide +kernel
theorem d_law_239 : decode code 239 = .ok (.iconst 2, 1) := by decide +kernel
theorem d_law_240 : decode code 240 = .ok (.iadd, 1) := by decide +kernel
theorem d_law_241 : decode code 241 = .ok (.iaload, 1) := by decide +kernel
theorem d_law_242 : decode code 242 = .ok (.i2l, 1) := by decide +kernel
theorem d_law_243 : decode code 243 = .ok (.bipush 32, 2) := by decide +kernel
theorem d_law_245 : decode code 245 = .ok (.lshl, 1) := by decide +kernel
theorem d_law_246 : decode code 246 = .ok (.aload_n 0, 1) := by decide +kernel
theorem d_law_247 : decode code 247 = .ok (.iload_n 3, 1) := by decide +kernel
theorem d_law_248 : decode code 248 = .ok (.iconst 3, 1) := by decide +kernel
theorem d_law_249 : decode code 249 = .ok (.iadd, 1) := by decide +kernel
theorem d_law_250 : decode code 250 = .ok (.iaload, 1) := by decide +kernel
theorem d_law_251 : decode code 251 = .ok (.i2l, 1) := by decide +kernel
theorem d_law_252 : decode code 252 = .ok (.ldc2_w 32, 3) := by decide +kernel
theorem d_law_255 : decode code 255 = .ok (.land, 1) := by decide +kernel
theorem d_law_256 : decode code 256 = .ok (.lor, 1) := by decide +kernel
theorem d_law_257 : decode code 257 = .ok (.invokevirtual 38, 3) := by decide +kernel
theorem d_law_260 : decode code 260 = .ok (.if_icmp .eq 108, 3) := by decide +kernel
theorem d_law_263 : decode code 263 = .ok (.iconst 0, 1) := by decide +kernel
theorem d_law_264 : decode code 264 = .ok (.ireturn, 1) := by decide +kernel
theorem d_law_265 : decode code 265 = .ok (.aload_n 1, 1) := by decide +kernel
theorem d_law_266 : decode code 266 = .ok (.aload_n 0, 1) := by decide +kernel
theorem d_law_267 : decode code 267 = .ok (.iload_n 3, 1) := by decide +kernel
theorem d_law_268 : decode code 268 = .ok (.iconst 1, 1) := by decide +kernel
theorem d_law_269 : decode code 269 = .ok (.iadd, 1) := by decide +kernel
theorem d_law_270 : decode code 270 = .ok (.iaload, 1) := by decide +kernel
theorem d_law_271 : decode code 271 = .ok (.aload_n 0, 1) := by decide +kernel
theorem d_law_272 : decode code 272 = .ok (.iload_n 3, 1) := by decide +kernel
theorem d_law_273 : decode code 273 = .ok (.iconst 2, 1) := by decide +kernel
theorem d_law_274 : decode code 274 = .ok (.iadd, 1) := by decide +kernel
theorem d_law_275 : decode code 275 = .ok (.iaload, 1) := by decide +kernel
theorem d_law_276 : decode code 276 = .ok (.invokevirtual 39, 3) := by decide +kernel
theorem d_law_279 : decode code 279 = .ok (.aload_n 2, 1) := by decide +kernel
theorem d_law_280 : decode code 280 = .ok (.aload_n 0, 1) := by decide +kernel
theorem d_law_281 : decode code 281 = .ok (.iload_n 3, 1) := by decide +kernel
theorem d_law_282 : decode code 282 = .ok (.iconst 1, 1) := by decide +kernel
theorem d_law_283 : decode code 283 = .ok (.iadd, 1) := by decide +kernel
theorem d_law_284 : decode code 284 = .ok (.iaload, 1) := by decide +kernel
theorem d_law_285 : decode code 285 = .ok (.aload_n 0, 1) := by decide +kernel
theorem d_law_286 : decode code 286 = .ok (.iload_n 3, 1) := by decide +kernel
theorem d_law_287 : decode code 287 = .ok (.iconst 2, 1) := by decide +kernel
theorem d_law_288 : decode code 288 = .ok (.iadd, 1) := by decide +kernel
theorem d_law_289 : decode code 289 = .ok (.iaload, 1) := by decide +kernel
theorem d_law_290 : decode code 290 = .ok (.invokevirtual 43, 3) := by decide +kernel
theorem d_law_293 : decode code 293 = .ok (.lcmp, 1) := by decide +kernel
theorem d_law_294 : decode code 294 = .ok (.ifCond .eq 74, 3) := by decide +kernel
theorem d_law_297 : decode code 297 = .ok (.iconst 0, 1) := by decide +kernel
theorem d_law_298 : decode code 298 = .ok (.ireturn, 1) := by decide +kernel
theorem d_law_299 : decode code 299 = .ok (.aload_n 1, 1) := by decide +kernel
theorem d_law_300 : decode code 300 = .ok (.aload_n 0, 1) := by decide +kernel
theorem d_law_301 : decode code 301 = .ok (.iload_n 3, 1) := by decide +kernel
theorem d_law_302 : decode code 302 = .ok (.iconst 1, 1) := by decide +kernel
theorem d_law_303 : decode code 303 = .ok (.iadd, 1) := by decide +kernel
theorem d_law_304 : decode code 304 = .ok (.iaload, 1) := by decide +kernel
theorem d_law_305 : decode code 305 = .ok (.invokevirtual 44, 3) := by decide +kernel
theorem d_law_308 : decode code 308 = .ok (.aload_n 2, 1) := by decide +kernel
theorem d_law_309 : decode code 309 = .ok (.aload_n 0, 1) := by decide +kernel
theorem d_law_310 : decode code 310 = .ok (.iload_n 3, 1) := by decide +kernel
theorem d_law_311 : decode code 311 = .ok (.iconst 1, 1) := by decide +kernel
theorem d_law_312 : decode code 312 = .ok (.iadd, 1) := by decide +kernel
theorem d_law_313 : decode code 313 = .ok (.iaload, 1) := by decide +kernel
theorem d_law_314 : decode code 314 = .ok (.invokevirtual 48, 3) := by decide +kernel
theorem d_law_317 : decode code 317 = .ok (.if_icmp .eq 51, 3) := by decide +kernel
theorem d_law_320 : decode code 320 = .ok (.iconst 0, 1) := by decide +kernel
theorem d_law_321 : decode code 321 = .ok (.ireturn, 1) := by decide +kernel
theorem d_law_322 : decode code 322 = .ok (.aload_n 1, 1) := by decide +kernel
theorem d_law_323 : decode code 323 = .ok (.aload_n 0, 1) := by decide +kernel
theorem d_law_324 : decode code 324 = .ok (.iload_n 3, 1) := by decide +kernel
theorem d_law_325 : decode code 325 = .ok (.iconst 1, 1) := by decide +kernel
theorem d_law_326 : decode code 326 = .ok (.iadd, 1) := by decide +kernel
theorem d_law_327 : decode code 327 = .ok (.iaload, 1) := by decide +kernel
theorem d_law_328 : decode code 328 = .ok (.invokevirtual 49, 3) := by decide +kernel
theorem d_law_331 : decode code 331 = .ok (.aload_n 2, 1) := by decide +kernel
theorem d_law_332 : decode code 332 = .ok (.aload_n 0, 1) := by decide +kernel
theorem d_law_333 : decode code 333 = .ok (.iload_n 3, 1) := by decide +kernel
theorem d_law_334 : decode code 334 = .ok (.iconst 1, 1) := by decide +kernel
theorem d_law_335 : decode code 335 = .ok (.iadd, 1) := by decide +kernel
theorem d_law_336 : decode code 336 = .ok (.iaload, 1) := by decide +kernel
theorem d_law_337 : decode code 337 = .ok (.invokevirtual 52, 3) := by decide +kernel
theorem d_law_340 : decode code 340 = .ok (.if_icmp .eq 28, 3) := by decide +kernel
theorem d_law_343 : decode code 343 = .ok (.iconst 0, 1) := by decide +kernel
theorem d_law_344 : decode code 344 = .ok (.ireturn, 1) := by decide +kernel
theorem d_law_345 : decode code 345 = .ok (.aload_n 1, 1) := by decide +kernel
theorem d_law_346 : decode code 346 = .ok (.aload_n 0, 1) := by decide +kernel
theorem d_law_347 : decode code 347 = .ok (.iload_n 3, 1) := by decide +kernel
theorem d_law_348 : decode code 348 = .ok (.iconst 1, 1) := by decide +kernel
theorem d_law_349 : decode code 349 = .ok (.iadd, 1) := by decide +kernel
theorem d_law_350 : decode code 350 = .ok (.iaload, 1) := by decide +kernel
theorem d_law_351 : decode code 351 = .ok (.invokevirtual 53, 3) := by decide +kernel
theorem d_law_354 : decode code 354 = .ok (.aload_n 2, 1) := by decide +kernel
theorem d_law_355 : decode code 355 = .ok (.aload_n 0, 1) := by decide +kernel
theorem d_law_356 : decode code 356 = .ok (.iload_n 3, 1) := by decide +kernel
theorem d_law_357 : decode code 357 = .ok (.iconst 1, 1) := by decide +kernel
theorem d_law_358 : decode code 358 = .ok (.iadd, 1) := by decide +kernel
theorem d_law_359 : decode code 359 = .ok (.iaload, 1) := by decide +kernel
theorem d_law_360 : decode code 360 = .ok (.invokevirtual 56, 3) := by decide +kernel
theorem d_law_363 : decode code 363 = .ok (.if_icmp .eq 5, 3) := by decide +kernel
theorem d_law_366 : decode code 366 = .ok (.iconst 0, 1) := by decide +kernel
theorem d_law_367 : decode code 367 = .ok (.ireturn, 1) := by decide +kernel
theorem d_law_368 : decode code 368 = .ok (.iinc 3 4, 3) := by decide +kernel
theorem d_law_371 : decode code 371 = .ok (.goto (-353), 3) := by decide +kernel
theorem d_law_374 : decode code 374 = .ok (.iconst 1, 1) := by decide +kernel
theorem d_law_375 : decode code 375 = .ok (.ireturn, 1) := by decide +kernel
end
section
/-! own rows: joins, loops, arrays by Nat places, compares of longs, the constants' fields, calls -/
section DDR
variable {p : Program} {l : Launch} {e : Env} {R : Room} {s : State} {m : MethodId} {args : Array Value} {below : List Frame} {meth : Method} {c : Code} {H : Heap} {locs : List Loc} {cells slots : Nat} {Q : State → Prop}
variable {cc : ByteArray} {pc : Nat} {ls : Array Slot} {rest : List Value} {D : va_G} {cl : List vw_C} {A : Nat → Prop} {a : Nat} {tys : List (ClassId × FieldType)} {ws : va_W} {H0 : Heap}
/-- a place where roads meet -/
theorem dd_jn {α : Type} {P : α → Prop} {g : α → JFrame} {g0 : JFrame} (k : ∀ z, P z → W p l e R s m args below meth c H locs cells slots Q (g z)) (main : (∀ z, P z → W p l e R s m args below meth c H locs cells slots Q (g z)) → W p l e R s m args below meth c H locs cells slots Q g0) : W p l e R s m args below meth c H locs cells slots Q g0 := main k
/-- a loop, by a number that falls -/
theorem dd_loop {α : Type} (I : α → Heap → List Loc → Prop) (g : α → JFrame) (μ : α → Nat)
    (step : ∀ (a : α) (H : Heap) (locs : List Loc), I a H locs → (∀ (b : α) (H' : Heap) (locs' : List Loc), I b H' locs' → μ b < μ a → W p l e R s m args below meth c H' locs' cells slots Q (g b)) → W p l e R s m args below meth c H locs cells slots Q (g a))
    (a0 : α) (h0 : I a0 H locs) : W p l e R s m args below meth c H locs cells slots Q (g a0) := by
  have key : ∀ (n : Nat) (a : α) (H : Heap) (locs : List Loc), I a H locs → μ a < n → W p l e R s m args below meth c H locs cells slots Q (g a) := by
    intro n
    induction n with
    | zero => intro a H locs _ h; exact absurd h (Nat.not_lt_zero _)
    | succ n ih => intro a H locs hI h; exact step a H locs hI (fun b H' locs' hb hlt => ih b H' locs' hb (by omega))
  exact key (μ a0 + 1) a0 H locs h0 (Nat.lt_succ_self _)
theorem dd_vin {i : Int32} {j n : Nat} (hi : i = nI j) (hj : j < n) (hn : n < 2 ^ 31) : vp_in i n := by rw [hi]; exact vp_in_nI hj hn
theorem dd_clm {i : Int32} {j n : Nat} (hi : i = nI j) (hj : j < n) (hn : n < 2 ^ 31) : i.toNatClampNeg = j := by rw [hi]; exact nI_clamp (by omega)
theorem dd_iald (hexec : p.tables.exec = Jvm.exec) (hb : c.code = cc) (hK : va_K D cl tys s) (hP : va_P D cl ws H) (q0 t0 : Nat) {cA : ClassId} {n : Nat} {f : Nat → Int32} (ha : ws[q0]? = some (a, .inl (cA, n, .inl f))) (ht : tys[t0]? = some (cA, .int)) {i : Int32} {j : Nat} (hi : i = nI j) (hj : j < n) (hn : n < 2 ^ 31) (hdg : decode cc pc = .ok (.iaload, 1))
    (kk : W p l e R s m args below meth c H locs cells slots Q (F0 m (pc + 1) ls (.int (f j) :: rest))) : W p l e R s m args below meth c H locs cells slots Q (F0 m pc ls (.int i :: .ref a :: rest)) :=
  va_iald hexec hb hK hP q0 t0 ha ht (dd_vin hi hj hn) hdg (by rw [dd_clm hi hj hn]; exact kk)
theorem dd_bald (hexec : p.tables.exec = Jvm.exec) (hb : c.code = cc) (hK : va_K D cl tys s) (hP : va_P D cl ws H) (q0 t0 : Nat) {cA : ClassId} {n : Nat} {f : Nat → Int32} (ha : ws[q0]? = some (a, .inl (cA, n, .inl f))) (ht : tys[t0]? = some (cA, .byte)) {i : Int32} {j : Nat} (hi : i = nI j) (hj : j < n) (hn : n < 2 ^ 31) (hdg : decode cc pc = .ok (.baload, 1))
    (kk : W p l e R s m args below meth c H locs cells slots Q (F0 m (pc + 1) ls (.int (f j) :: rest))) : W p l e R s m args below meth c H locs cells slots Q (F0 m pc ls (.int i :: .ref a :: rest)) :=
  va_bald hexec hb hK hP q0 t0 ha ht (dd_vin hi hj hn) hdg (by rw [dd_clm hi hj hn]; exact kk)
theorem dd_lald (hexec : p.tables.exec = Jvm.exec) (hb : c.code = cc) (hK : va_K D cl tys s) (hP : va_P D cl ws H) (q0 t0 : Nat) {cA : ClassId} {n : Nat} {f : Nat → Int64} (ha : ws[q0]? = some (a, .inl (cA, n, .inr (.inl f)))) (ht : tys[t0]? = some (cA, .long)) {i : Int32} {j : Nat} (hi : i = nI j) (hj : j < n) (hn : n < 2 ^ 31) (hdg : decode cc pc = .ok (.laload, 1))
    (kk : W p l e R s m args below meth c H locs cells slots Q (F0 m (pc + 1) ls (.long (f j) :: rest))) : W p l e R s m args below meth c H locs cells slots Q (F0 m pc ls (.int i :: .ref a :: rest)) :=
  va_lald hexec hb hK hP q0 t0 ha ht (dd_vin hi hj hn) hdg (by rw [dd_clm hi hj hn]; exact kk)
theorem dd_aald (hexec : p.tables.exec = Jvm.exec) (hb : c.code = cc) (hK : va_K D cl tys s) (hP : va_P D cl ws H) (q0 t0 : Nat) {cA : ClassId} {C : String} {n : Nat} {f : Nat → Option Nat} (ha : ws[q0]? = some (a, .inl (cA, n, .inr (.inr (.inr (.inr f)))))) (ht : tys[t0]? = some (cA, .object C)) {i : Int32} {j b : Nat} (hi : i = nI j) (hj : j < n) (hn : n < 2 ^ 31) (hf : f j = some b) (hdg : decode cc pc = .ok (.aaload, 1))
    (kk : W p l e R s m args below meth c H locs cells slots Q (F0 m (pc + 1) ls (.ref b :: rest))) : W p l e R s m args below meth c H locs cells slots Q (F0 m pc ls (.int i :: .ref a :: rest)) :=
  va_aldq hexec hb hK hP q0 t0 ha ht (dd_vin hi hj hn) hdg (by rw [dd_clm hi hj hn, hf]; exact kk)
theorem dd_iast (hexec : p.tables.exec = Jvm.exec) (hb : c.code = cc) (hK : va_K D cl tys s) (hP : va_P D cl ws H) (hD : va_D A ws) (hS : va_S A H0 H locs) (q0 t0 : Nat) {cA : ClassId} {n : Nat} {f : Nat → Int32} (ha : ws[q0]? = some (a, .inl (cA, n, .inl f))) (ht : tys[t0]? = some (cA, .int)) {i : Int32} {j : Nat} {x : Int32} (hi : i = nI j) (hj : j < n) (hn : n < 2 ^ 31) (hdg : decode cc pc = .ok (.iastore, 1))
    (kk : ∀ (H1 : Heap) (locs1 : List Loc), va_P D cl (ws.set q0 (a, .inl (cA, n, .inl (upd f j x)))) H1 → va_D A (ws.set q0 (a, .inl (cA, n, .inl (upd f j x)))) → va_S A H0 H1 locs1 → W p l e R s m args below meth c H1 locs1 cells slots Q (F0 m (pc + 1) ls rest)) : W p l e R s m args below meth c H locs cells slots Q (F0 m pc ls (.int x :: .int i :: .ref a :: rest)) :=
  va_iast hexec hb hK hP hD hS q0 t0 ha ht (dd_vin hi hj hn) hdg (by rw [dd_clm hi hj hn]; exact kk)
theorem dd_bast (hexec : p.tables.exec = Jvm.exec) (hb : c.code = cc) (hK : va_K D cl tys s) (hP : va_P D cl ws H) (hD : va_D A ws) (hS : va_S A H0 H locs) (q0 t0 : Nat) {cA : ClassId} {n : Nat} {f : Nat → Int32} (ha : ws[q0]? = some (a, .inl (cA, n, .inl f))) (ht : tys[t0]? = some (cA, .byte)) {i : Int32} {j : Nat} {x y : Int32} (hi : i = nI j) (hj : j < n) (hn : n < 2 ^ 31) (hxy : vp_nar .byte x = y) (hdg : decode cc pc = .ok (.bastore, 1))
    (kk : ∀ (H1 : Heap) (locs1 : List Loc), va_P D cl (ws.set q0 (a, .inl (cA, n, .inl (upd f j y)))) H1 → va_D A (ws.set q0 (a, .inl (cA, n, .inl (upd f j y)))) → va_S A H0 H1 locs1 → W p l e R s m args below meth c H1 locs1 cells slots Q (F0 m (pc + 1) ls rest)) : W p l e R s m args below meth c H locs cells slots Q (F0 m pc ls (.int x :: .int i :: .ref a :: rest)) :=
  va_bast hexec hb hK hP hD hS q0 t0 ha ht (dd_vin hi hj hn) hdg (by rw [dd_clm hi hj hn, hxy]; exact kk)
theorem dd_last (hexec : p.tables.exec = Jvm.exec) (hb : c.code = cc) (hK : va_K D cl tys s) (hP : va_P D cl ws H) (hD : va_D A ws) (hS : va_S A H0 H locs) (q0 t0 : Nat) {cA : ClassId} {n : Nat} {f : Nat → Int64} (ha : ws[q0]? = some (a, .inl (cA, n, .inr (.inl f)))) (ht : tys[t0]? = some (cA, .long)) {i : Int32} {j : Nat} {x : Int64} (hi : i = nI j) (hj : j < n) (hn : n < 2 ^ 31) (hdg : decode cc pc = .ok (.lastore, 1))
    (kk : ∀ (H1 : Heap) (locs1 : List Loc), va_P D cl (ws.set q0 (a, .inl (cA, n, .inr (.inl (vp_updL f j x))))) H1 → va_D A (ws.set q0 (a, .inl (cA, n, .inr (.inl (vp_updL f j x))))) → va_S A H0 H1 locs1 → W p l e R s m args below meth c H1 locs1 cells slots Q (F0 m (pc + 1) ls rest)) : W p l e R s m args below meth c H locs cells slots Q (F0 m pc ls (.long x :: .int i :: .ref a :: rest)) :=
  va_last hexec hb hK hP hD hS q0 t0 ha ht (dd_vin hi hj hn) hdg (by rw [dd_clm hi hj hn]; exact kk)
/-! a compare of longs and the branch behind it -/
theorem dd_lc_eq (hexec : p.tables.exec = Jvm.exec) (hb : c.code = cc) {x y : Int64} {off : Int} {tgt : Nat} (h1 : decode cc pc = .ok (.lcmp, 1)) (h2 : decode cc (pc + 1) = .ok (.ifCond .eq off, 3)) (ht : ((pc + 1 : Nat) : Int) + off = (tgt : Int)) (kt : x = y → W p l e R s m args below meth c H locs cells slots Q (F0 m tgt ls rest)) (kf : ¬ x = y → W p l e R s m args below meth c H locs cells slots Q (F0 m (pc + 1 + 3) ls rest)) : W p l e R s m args below meth c H locs cells slots Q (F0 m pc ls (.long y :: .long x :: rest)) :=
  W.lcmp hexec hb h1 (lv_if_eq hexec hb h2 ht (fun h => kt ((lg_cmp_eq x y).mp h)) (fun h => kf (fun q => h ((lg_cmp_eq x y).mpr q))))
theorem dd_lc_ne (hexec : p.tables.exec = Jvm.exec) (hb : c.code = cc) {x y : Int64} {off : Int} {tgt : Nat} (h1 : decode cc pc = .ok (.lcmp, 1)) (h2 : decode cc (pc + 1) = .ok (.ifCond .ne off, 3)) (ht : ((pc + 1 : Nat) : Int) + off = (tgt : Int)) (kt : ¬ x = y → W p l e R s m args below meth c H locs cells slots Q (F0 m tgt ls rest)) (kf : x = y → W p l e R s m args below meth c H locs cells slots Q (F0 m (pc + 1 + 3) ls rest)) : W p l e R s m args below meth c H locs cells slots Q (F0 m pc ls (.long y :: .long x :: rest)) :=
  W.lcmp hexec hb h1 (lv_if_ne hexec hb h2 ht (fun h => kt (fun q => h ((lg_cmp_eq x y).mpr q))) (fun h => kf ((lg_cmp_eq x y).mp h)))
theorem dd_lc_lt (hexec : p.tables.exec = Jvm.exec) (hb : c.code = cc) {x y : Int64} {off : Int} {tgt : Nat} (h1 : decode cc pc = .ok (.lcmp, 1)) (h2 : decode cc (pc + 1) = .ok (.ifCond .lt off, 3)) (ht : ((pc + 1 : Nat) : Int) + off = (tgt : Int)) (kt : x < y → W p l e R s m args below meth c H locs cells slots Q (F0 m tgt ls rest)) (kf : ¬ x < y → W p l e R s m args below meth c H locs cells slots Q (F0 m (pc + 1 + 3) ls rest)) : W p l e R s m args below meth c H locs cells slots Q (F0 m pc ls (.long y :: .long x :: rest)) :=
  W.lcmp hexec hb h1 (lv_if_lt hexec hb h2 ht (fun h => kt ((lg_cmp_lt x y).mp h)) (fun h => kf (fun q => h ((lg_cmp_lt x y).mpr q))))
theorem dd_lc_ge (hexec : p.tables.exec = Jvm.exec) (hb : c.code = cc) {x y : Int64} {off : Int} {tgt : Nat} (h1 : decode cc pc = .ok (.lcmp, 1)) (h2 : decode cc (pc + 1) = .ok (.ifCond .ge off, 3)) (ht : ((pc + 1 : Nat) : Int) + off = (tgt : Int)) (kt : y ≤ x → W p l e R s m args below meth c H locs cells slots Q (F0 m tgt ls rest)) (kf : ¬ y ≤ x → W p l e R s m args below meth c H locs cells slots Q (F0 m (pc + 1 + 3) ls rest)) : W p l e R s m args below meth c H locs cells slots Q (F0 m pc ls (.long y :: .long x :: rest)) :=
  W.lcmp hexec hb h1 (lv_if_ge hexec hb h2 ht (fun h => kt ((lg_cmp_ge x y).mp h)) (fun h => kf (fun q => h ((lg_cmp_ge x y).mpr q))))
theorem dd_lc_gt (hexec : p.tables.exec = Jvm.exec) (hb : c.code = cc) {x y : Int64} {off : Int} {tgt : Nat} (h1 : decode cc pc = .ok (.lcmp, 1)) (h2 : decode cc (pc + 1) = .ok (.ifCond .gt off, 3)) (ht : ((pc + 1 : Nat) : Int) + off = (tgt : Int)) (kt : y < x → W p l e R s m args below meth c H locs cells slots Q (F0 m tgt ls rest)) (kf : ¬ y < x → W p l e R s m args below meth c H locs cells slots Q (F0 m (pc + 1 + 3) ls rest)) : W p l e R s m args below meth c H locs cells slots Q (F0 m pc ls (.long y :: .long x :: rest)) :=
  W.lcmp hexec hb h1 (lv_if_gt hexec hb h2 ht (fun h => kt ((lg_cmp_gt x y).mp h)) (fun h => kf (fun q => h ((lg_cmp_gt x y).mpr q))))
theorem dd_lc_le (hexec : p.tables.exec = Jvm.exec) (hb : c.code = cc) {x y : Int64} {off : Int} {tgt : Nat} (h1 : decode cc pc = .ok (.lcmp, 1)) (h2 : decode cc (pc + 1) = .ok (.ifCond .le off, 3)) (ht : ((pc + 1 : Nat) : Int) + off = (tgt : Int)) (kt : x ≤ y → W p l e R s m args below meth c H locs cells slots Q (F0 m tgt ls rest)) (kf : ¬ x ≤ y → W p l e R s m args below meth c H locs cells slots Q (F0 m (pc + 1 + 3) ls rest)) : W p l e R s m args below meth c H locs cells slots Q (F0 m pc ls (.long y :: .long x :: rest)) :=
  W.lcmp hexec hb h1 (lv_if_le hexec hb h2 ht (fun h => kt ((lg_cmp_le x y).mp h)) (fun h => kf (fun q => h ((lg_cmp_le x y).mpr q))))
/-- two of the constants are compared -/
theorem dd_ac_eq (hexec : p.tables.exec = Jvm.exec) (hb : c.code = cc) {ad : Nat → Nat} {N i j : Nat} (inj : ∀ i j, i < N → j < N → ad i = ad j → i = j) (hi : i < N) (hj : j < N) {off : Int} {tgt : Nat} (hdg : decode cc pc = .ok (.if_acmp .eq off, 3)) (ht : (pc : Int) + off = (tgt : Int))
    (kt : i = j → W p l e R s m args below meth c H locs cells slots Q (F0 m tgt ls rest)) (kf : ¬ i = j → W p l e R s m args below meth c H locs cells slots Q (F0 m (pc + 3) ls rest)) : W p l e R s m args below meth c H locs cells slots Q (F0 m pc ls (.ref (ad j) :: .ref (ad i) :: rest)) :=
  lv_acmp_eq (rx := some (ad i)) (ry := some (ad j)) hexec hb hdg ht (fun h => kt (inj i j hi hj (Option.some.inj h))) (fun h => kf (fun q => h (by rw [q])))
theorem dd_ac_ne (hexec : p.tables.exec = Jvm.exec) (hb : c.code = cc) {ad : Nat → Nat} {N i j : Nat} (inj : ∀ i j, i < N → j < N → ad i = ad j → i = j) (hi : i < N) (hj : j < N) {off : Int} {tgt : Nat} (hdg : decode cc pc = .ok (.if_acmp .ne off, 3)) (ht : (pc : Int) + off = (tgt : Int))
    (kt : ¬ i = j → W p l e R s m args below meth c H locs cells slots Q (F0 m tgt ls rest)) (kf : i = j → W p l e R s m args below meth c H locs cells slots Q (F0 m (pc + 3) ls rest)) : W p l e R s m args below meth c H locs cells slots Q (F0 m pc ls (.ref (ad j) :: .ref (ad i) :: rest)) :=
  lv_acmp_ne (rx := some (ad i)) (ry := some (ad j)) hexec hb hdg ht (fun h => kt (fun q => h (by rw [q]))) (fun h => kf (inj i j hi hj (Option.some.inj h)))
/-- a constant's int field, by its own link and by a nest mate's -/
theorem dd_getE (hexec : p.tables.exec = Jvm.exec) (hb : c.code = cc) {E d own ref : String} {nm : List String} {F : List (String × String × String × List Int32)} {ad : Nat → Nat} {index i : Nat} (hE : va_En E d nm F ad A s s.heap) (hi : i < nm.length) (hS : va_S A s.heap H locs) (hown : s.vm.findClass own = some m.cls) {q : String × String × String × List Int32} (hq : q ∈ F) (hlink : (Cond.fieldLink own index ref q.2.1 q.2.2.1).before args s = true) (hsame : ∀ x, s.fieldFound? q.1 q.2.1 q.2.2.1 = some x → s.fieldFound? ref q.2.1 q.2.2.1 = some x) {v : Int32} (hv : q.2.2.2.getD i 0 = v) (hdg : decode cc pc = .ok (.getfield index, 3))
    (kk : W p l e R s m args below meth c H locs cells slots Q (F0 m (pc + 3) ls (.int v :: rest))) : W p l e R s m args below meth c H locs cells slots Q (F0 m pc ls (.ref (ad i) :: rest)) := by
  subst hv
  exact va_getE hexec hb hE hi hS hown hq hlink hsame hdg kk
theorem dd_getEN (hexec : p.tables.exec = Jvm.exec) (hb : c.code = cc) {E d own ref host : String} {nm : List String} {F : List (String × String × String × List Int32)} {ad : Nat → Nat} {index i : Nat} (hE : va_En E d nm F ad A s s.heap) (hi : i < nm.length) (hS : va_S A s.heap H locs) (hown : s.vm.findClass own = some m.cls) {q : String × String × String × List Int32} (hq : q ∈ F) (hlink : (Cond.fieldLinkNest own index ref q.2.1 q.2.2.1 host).before args s = true) (hsame : ∀ x, s.fieldFound? q.1 q.2.1 q.2.2.1 = some x → s.fieldFound? ref q.2.1 q.2.2.1 = some x) {v : Int32} (hv : q.2.2.2.getD i 0 = v) (hdg : decode cc pc = .ok (.getfield index, 3))
    (kk : W p l e R s m args below meth c H locs cells slots Q (F0 m (pc + 3) ls (.int v :: rest))) : W p l e R s m args below meth c H locs cells slots Q (F0 m pc ls (.ref (ad i) :: rest)) := by
  subst hv
  obtain ⟨cf, k, fi, f, cell, h1, h2, h3, h4, h5, h6⟩ := ((hE.1 i hi).2.2 q hq).kept hS.2.1
  exact va_Wgetf hexec hb hown hlink (hsame _ h1) h2 h3 h4 (v := .int (q.2.2.2.getD i 0)) h5 rfl rfl hdg kk
/-- a constant out of its static -/
theorem dd_gsE (hexec : p.tables.exec = Jvm.exec) (hb : c.code = cc) {E d own ref n : String} {nm : List String} {F : List (String × String × String × List Int32)} {ad : Nat → Nat} {index : Nat} (i : Nat) (hE : va_En E d nm F ad A s s.heap) (hi : i < nm.length) (hS : va_S A s.heap H locs) (hown : s.vm.findClass own = some m.cls) (hn : nm.getD i "" = n) (hlink : (Cond.fieldLink own index ref n d).before args s = true) (hsame : ∀ x, s.fieldFound? E n d = some x → s.fieldFound? ref n d = some x) (hdg : decode cc pc = .ok (.getstatic index, 3))
    (kk : W p l e R s m args below meth c H locs cells slots Q (F0 m (pc + 3) ls (.ref (ad i) :: rest))) : W p l e R s m args below meth c H locs cells slots Q (F0 m pc ls rest) := by
  subst hn
  exact va_gets hexec hb (hE.1 i hi).1 hS hown hlink hsame hdg kk
theorem dd_ca {U : State} {c1 c2 : ClassId} {ty : FieldType} (h1 : va_RA U c1 ty) (h2 : va_RA U c2 ty) : c1 = c2 := by
  cases ty with
  | object C =>
    obtain ⟨_, _, _, _, _, a4⟩ := h1
    obtain ⟨_, _, _, _, _, b4⟩ := h2
    exact Option.some.inj (a4.symm.trans b4)
  | _ => exact Option.some.inj (Eq.trans (Eq.symm h1) h2)
/-- a new array, of a type whose array class is known -/
theorem dd_newa (hexec : p.tables.exec = Jvm.exec) (hb : c.code = cc) {atype : ArrayType} (harr : (Cond.arrayClass (newarray.typeOf atype)).before args s = true) {ty : FieldType} (hty : newarray.typeOf atype = ty) (hK : va_K D cl tys s) (hP : va_P D cl ws H) (hD : va_D A ws) (hS : va_S A H0 H locs) (hA : ∀ q, H0.size ≤ q → A q) (t0 : Nat) {cA : ClassId} (ht : tys[t0]? = some (cA, ty))
    {n : Int32} {N' : Nat} {a0 : vp_A} (ha : ∀ cA : ClassId, vp_cell cA a0 = arrV cA N' (fun _ => defaultValue ty)) (hn : ¬ n < 0) (hN : n.toNatClampNeg = N') (hbytes : N' * componentBytes ty ≤ 536870912) (hcells : cells + 1 ≤ R.cells) (hslots : slots + N' ≤ R.slots) (hdg : decode cc pc = .ok (.newarray atype, 2))
    (kk : ∀ (q : Nat) (H1 : Heap), va_P D cl (ws ++ [(q, .inl (cA, a0))]) H1 → va_D A (ws ++ [(q, .inl (cA, a0))]) → va_S A H0 H1 locs →
      W p l e R s m args below meth c H1 locs (cells + 1) (slots + N') Q (F0 m (pc + 2) ls (.ref q :: rest))) : W p l e R s m args below meth c H locs cells slots Q (F0 m pc ls (.int n :: rest)) := by
  refine va_newa hexec hb harr hty hK hP hD hS hA ha hn hN hbytes hcells hslots hdg (fun q cA' H1 hK' hP' hD' hS' => ?_)
  have e9 : cA' = cA := dd_ca (hK'.2 tys.length (cA', ty) (by simp)).2 (hK.2 t0 _ ht).2
  subst e9
  exact kk q H1 hP' hD' hS'
end DDR
section DDC
variable {p : Program} {l : Launch} {e : Env} {R : Room} {s : State} {m : MethodId} {args : Array Value} {below : List Frame} {meth : Method} {c : Code} {H : Heap} {locs : List Loc} {cells slots : Nat} {Q : State → Prop}
variable {pc : Nat} {ls : Array Slot} {rest st0 : List Value} {a : Array Value} {A : Nat → Prop} {H0 : Heap} {mc ms : Nat} {D : va_G} {cl : List vw_C} {ws wc wr : va_W}
/-! behind a call of a method that writes: the rest of the world, and the callee's new world -/
theorem dd_mi {S : Type} {post : Int32 → S → Prop} {wf : S → va_W} (hr : va_Run p l e R s m args below meth c H locs cells slots mc ms (F0 m pc ls st0) rest (va_Qi post (fun u t => va_P D cl (wf u) t.heap ∧ va_D (va_A wc H.size) (wf u)) (va_A wc H.size) a) (va_A wc H.size))
    (hP : va_P D cl ws H) (hD : va_D A ws) (hS : va_S A H0 H locs) (hA : ∀ q, H0.size ≤ q → A q) (isC isR : List Nat) (hC : isC.map (fun i => ws[i]?) = wc.map some) (hR : isR.map (fun i => ws[i]?) = wr.map some) (hn : va_nd isR = true) (hdis : ∀ i ∈ isR, i ∉ isC)
    (kk : ∀ (r : Int32) (u : S) (H1 : Heap) (locs1 : List Loc), post r u → va_P D cl (wr ++ wf u) H1 → va_D A (wr ++ wf u) → va_S A H0 H1 locs1 → W p l e R s m args below meth c H1 locs1 (cells + mc) (slots + ms) Q (F0 m (pc + 3) ls (.int r :: rest))) : W p l e R s m args below meth c H locs cells slots Q (F0 m pc ls st0) := by
  have hF := va_free hD hS hA isC hC
  refine va_calli hr hS (fun q _ h => hF q h) hF (fun r u t H1 locs1 ht hvm hp hB hz hk hS1 => ?_)
  subst ht
  obtain ⟨hP1, hD1⟩ := va_join hP hD isC isR hC hR hn hdis hk hF hB.1 hB.2
  exact kk r u _ locs1 hp hP1 hD1 hS1
theorem dd_mv {S : Type} {post : S → Prop} {wf : S → va_W} (hr : va_Run p l e R s m args below meth c H locs cells slots mc ms (F0 m pc ls st0) rest (va_Qv post (fun u t => va_P D cl (wf u) t.heap ∧ va_D (va_A wc H.size) (wf u)) (va_A wc H.size) a) (va_A wc H.size))
    (hP : va_P D cl ws H) (hD : va_D A ws) (hS : va_S A H0 H locs) (hA : ∀ q, H0.size ≤ q → A q) (isC isR : List Nat) (hC : isC.map (fun i => ws[i]?) = wc.map some) (hR : isR.map (fun i => ws[i]?) = wr.map some) (hn : va_nd isR = true) (hdis : ∀ i ∈ isR, i ∉ isC)
    (kk : ∀ (u : S) (H1 : Heap) (locs1 : List Loc), post u → va_P D cl (wr ++ wf u) H1 → va_D A (wr ++ wf u) → va_S A H0 H1 locs1 → W p l e R s m args below meth c H1 locs1 (cells + mc) (slots + ms) Q (F0 m (pc + 3) ls rest)) : W p l e R s m args below meth c H locs cells slots Q (F0 m pc ls st0) := by
  have hF := va_free hD hS hA isC hC
  refine va_callv hr hS (fun q _ h => hF q h) hF (fun u t H1 locs1 ht hvm hp hB hz hk hS1 => ?_)
  subst ht
  obtain ⟨hP1, hD1⟩ := va_join hP hD isC isR hC hR hn hdis hk hF hB.1 hB.2
  exact kk u _ locs1 hp hP1 hD1 hS1
end DDC
/-! the standing parts of the contracts -/
/-- the array classes: long, int, byte, Phase -/
abbrev dd_ty (k : Nat → ClassId) : List (ClassId × FieldType) := [(k 0, .long), (k 1, .int), (k 2, .byte), (k 3, .object "DayDesk$Phase")]
/-- fields of nest mates -/
def dd_N (U : State) : Prop := va_Nw (.fieldLinkNest "DayDesk" 45 "DayDesk$DayClock" "day" "I" "DayDesk") U ∧ va_Nw (.fieldLinkNest "DayDesk" 49 "DayDesk$DayClock" "tick" "I" "DayDesk") U ∧ va_Nw (.fieldLinkNest "DayDesk" 96 "DayDesk$NumberWriter" "bytes" "[B" "DayDesk") U ∧ va_Nw (.fieldLinkNest "DayDesk" 86 "DayDesk$NumberWriter" "size" "I" "DayDesk") U ∧ va_Nw (.fieldLinkNest "DayDesk$DayClock" 19 "DayDesk$Phase" "begin" "I" "DayDesk") U ∧ va_Nw (.fieldLinkNest "DayDesk" 56 "DayDesk$Phase" "number" "I" "DayDesk") U ∧ va_Nw (.fieldLinkNest "DayDesk$DayClock" 47 "DayDesk$Phase" "number" "I" "DayDesk") U
theorem dd_N.warm {s U : State} (hW : s.WarmedH U.vm) (h : dd_N s) : dd_N U := ⟨va_Nw.warmF hW h.1, va_Nw.warmF hW h.2.1, va_Nw.warmF hW h.2.2.1, va_Nw.warmF hW h.2.2.2.1, va_Nw.warmF hW h.2.2.2.2.1, va_Nw.warmF hW h.2.2.2.2.2.1, va_Nw.warmF hW h.2.2.2.2.2.2⟩
theorem dd_N.same {s U : State} (hW : s.vm = U.vm) (h : dd_N s) : dd_N U := ⟨va_Nw.same rfl hW h.1, va_Nw.same rfl hW h.2.1, va_Nw.same rfl hW h.2.2.1, va_Nw.same rfl hW h.2.2.2.1, va_Nw.same rfl hW h.2.2.2.2.1, va_Nw.same rfl hW h.2.2.2.2.2.1, va_Nw.same rfl hW h.2.2.2.2.2.2⟩
abbrev dd_nm : List String := ["EARLY", "OPEN", "LATE", "FINAL", "SHUT"]
abbrev dd_F : List (String × String × String × List Int32) := [("DayDesk$Phase", "number", "I", [0, 1, 2, 3, 4]), ("DayDesk$Phase", "begin", "I", [0, 100, 700, 800, 900]), ("DayDesk$Phase", "barred", "I", [8312, 0, 0, 0, 8696])]
abbrev dd_E (ad : Nat → Nat) (A : Nat → Prop) (U : State) (H : Heap) : Prop := va_En "DayDesk$Phase" "LDayDesk$Phase;" dd_nm dd_F ad A U H
/-- a start that says nothing of the heap -/
def dd_PS (av : List Value) : Array Value → State → Prop := va_Pc av (fun _ => True)
/-- a start of a method that only reads -/
def dd_PR (D : va_G) (k : Nat → ClassId) (ws : va_W) (av : List Value) : Array Value → State → Prop := va_Pc av (fun U => va_P D dd_cl ws U.heap ∧ va_K D dd_cl (dd_ty k) U ∧ dd_N U)
/-- the same, with the constants -/
def dd_PE (D : va_G) (k : Nat → ClassId) (ad : Nat → Nat) (ws : va_W) (av : List Value) : Array Value → State → Prop := va_Pc av (fun U => va_P D dd_cl ws U.heap ∧ va_K D dd_cl (dd_ty k) U ∧ dd_N U ∧ dd_E ad (fun _ => False) U U.heap)
/-- a start of a method that writes -/
def dd_PM (D : va_G) (k : Nat → ClassId) (sz : Nat) (ws : va_W) (av : List Value) : Array Value → State → Prop := va_Pc av (fun U => U.heap.size = sz ∧ va_P D dd_cl ws U.heap ∧ va_D (fun _ => True) ws ∧ va_K D dd_cl (dd_ty k) U ∧ dd_N U)
theorem dd_PS.bl {av : List Value} : FrameBlind (dd_PS av) := fun _ _ _ _ q => ⟨q.1, trivial⟩
theorem dd_PR.bl {D : va_G} {k : Nat → ClassId} {ws : va_W} {av : List Value} : FrameBlind (dd_PR D k ws av) := fun a U g mk q => ⟨q.1, q.2.1, va_K.moved (u := U) (U := U.calling g mk a) (Vm.Alike.refl U.vm) q.2.2.1, dd_N.same (s := U) (U := U.calling g mk a) rfl q.2.2.2⟩
theorem dd_PE.bl {D : va_G} {k : Nat → ClassId} {ad : Nat → Nat} {ws : va_W} {av : List Value} : FrameBlind (dd_PE D k ad ws av) := fun a U g mk q => ⟨q.1, q.2.1, va_K.moved (u := U) (U := U.calling g mk a) (Vm.Alike.refl U.vm) q.2.2.1, dd_N.same (s := U) (U := U.calling g mk a) rfl q.2.2.2.1, va_En.moved (u := U) (U := U.calling g mk a) (Vm.Alike.refl U.vm) q.2.2.2.2⟩
theorem dd_PM.bl {D : va_G} {k : Nat → ClassId} {sz : Nat} {ws : va_W} {av : List Value} : FrameBlind (dd_PM D k sz ws av) := fun a U g mk q => ⟨q.1, q.2.1, q.2.2.1, q.2.2.2.1, va_K.moved (u := U) (U := U.calling g mk a) (Vm.Alike.refl U.vm) q.2.2.2.2.1, dd_N.same (s := U) (U := U.calling g mk a) rfl q.2.2.2.2.2⟩
theorem dd_PS.of {s : State} {H : Heap} {av : List Value} : ∀ U : State, U.heap = H → s.WarmedH U.vm → dd_PS av av.toArray U := fun _ _ _ => ⟨rfl, trivial⟩
theorem dd_PR.of {D : va_G} {k : Nat → ClassId} {ws : va_W} {av : List Value} {s : State} {H : Heap} (hP : va_P D dd_cl ws H) (hK : va_K D dd_cl (dd_ty k) s) (hN : dd_N s) : ∀ U : State, U.heap = H → s.WarmedH U.vm → dd_PR D k ws av av.toArray U := fun U hU hW => ⟨rfl, by rw [hU]; exact hP, va_K.moved hW.alike hK, hN.warm hW⟩
theorem dd_PE.of {D : va_G} {k : Nat → ClassId} {ad : Nat → Nat} {ws : va_W} {av : List Value} {s : State} {H : Heap} {A : Nat → Prop} {locs : List Loc} (hP : va_P D dd_cl ws H) (hK : va_K D dd_cl (dd_ty k) s) (hN : dd_N s) (hE : dd_E ad A s s.heap) (hS : va_S A s.heap H locs) : ∀ U : State, U.heap = H → s.WarmedH U.vm → dd_PE D k ad ws av av.toArray U := fun U hU hW => ⟨rfl, by rw [hU]; exact hP, va_K.moved hW.alike hK, hN.warm hW, by rw [hU]; exact va_En.moved hW.alike ((va_En.kept hE hS.2.1).narrow (fun _ h => h.elim))⟩
theorem dd_PM.of {D : va_G} {k : Nat → ClassId} {ws : va_W} {av : List Value} {s : State} {H : Heap} {A : Nat → Prop} (hP : va_P D dd_cl ws H) (hD : va_D A ws) (hK : va_K D dd_cl (dd_ty k) s) (hN : dd_N s) : ∀ U : State, U.heap = H → s.WarmedH U.vm → dd_PM D k H.size ws av av.toArray U := fun U hU hW => ⟨rfl, by rw [hU], by rw [hU]; exact hP, hD.weaken (fun _ _ _ _ => trivial), va_K.moved hW.alike hK, hN.warm hW⟩
/-- the ends of methods that write: the answer, and the new world at the same places -/
abbrev dd_Qi {S : Type} (D : va_G) (post : Int32 → S → Prop) (wf : S → va_W) (A : Nat → Prop) : Array Value → State → Outcome → State → Prop := va_Qi post (fun u t => va_P D dd_cl (wf u) t.heap ∧ va_D A (wf u)) A
abbrev dd_Qv {S : Type} (D : va_G) (post : S → Prop) (wf : S → va_W) (A : Nat → Prop) : Array Value → State → Outcome → State → Prop := va_Qv post (fun u t => va_P D dd_cl (wf u) t.heap ∧ va_D A (wf u)) A
end
section
/-! what the methods compute, in the order of their branches; the worlds -/
theorem dd_tb {w0 : Cond} {args : Array Value} {s : State} (h : ∀ w ∈ w0 :: dd_gt, w.before args s = true) : ∀ w ∈ dd_gt, w.before args s = true := fun w hw => h w (List.mem_cons_of_mem _ hw)
def dd_rsv (t : Int32) : Int32 := if t < 150 then 0 else if 900 < t then 0 else if ¬ (t - t / 50 * 50) = 0 then 0 else 1
def dd_pv (t : Int32) : Int32 := dd_rsv t + (if t = 900 then 2 else 0) + (if t = 0 then 4 else 0)
def dd_nxt (t : Int32) : Int32 := if t + 1 = 1000 then 0 else t + 1
def dd_nxd (t d : Int32) : Int32 := if t + 1 = 1000 then d + 1 else d
def dd_ph (t : Int32) : Int32 := if 100 ≤ t then (if 700 ≤ t then (if 800 ≤ t then (if 900 ≤ t then 4 else 3) else 2) else 1) else 0
def dd_phN (t : Int32) : Nat := if 900 ≤ t then 4 else if 800 ≤ t then 3 else if 700 ≤ t then 2 else if 100 ≤ t then 1 else 0
def dd_isP (p : Int32) : Int32 := if p < 0 then 0 else if 200 ≤ p then 0 else 1
def dd_inW (v m : Int64) : Int32 := if v < -m then 0 else if m < v then 0 else 1
def dd_bar (i : Nat) : Int32 := [8312, 0, 0, 0, 8696].getD i 0
def dd_brs (b kind : Int32) : Int32 := if ¬ ((b >>> (kind &&& 31)) &&& 1) = 1 then 0 else 1
def dd_mayD (i : Nat) (kind prio money : Int32) : Int32 := if kind < 0 then 0 else if 15 ≤ kind then 0 else if dd_brs (dd_bar i) kind = 0 then (if ¬ kind = 5 then 1 else if i = 2 then (if 4 < prio then 0 else 1) else if i = 3 then (if money = 0 then 0 else 1) else 1) else 0
/-- o w c n mv: opening, went, came, now, moved -/
abbrev dd_SS : Type := (Nat → Int64) × (Nat → Int64) × (Nat → Int64) × (Nat → Int64) × (Nat → Int32)
def dd_cnS (ss : dd_SS) (j : Nat) (v : Int64) : Int32 := if dd_inW v 10000000000000000 = 0 then 0 else if dd_inW (ss.2.2.2.1 j + v) 9000000000000000000 = 0 then 0 else if dd_inW (if 0 ≤ v then ss.2.2.1 j + v else ss.2.1 j - v) 9000000000000000000 = 0 then 0 else 1
def dd_tdS (ss : dd_SS) (j : Nat) : Int32 := if ¬ ss.1 j = 0 then 1 else if ss.2.2.2.2 j ≤ 0 then 0 else 1
def dd_ofS (ss : dd_SS) (j : Nat) (what : Int32) : Int64 := if what = 0 then ss.1 j else if what = 1 then ss.2.1 j else if what = 2 then ss.2.2.1 j else if what = 3 then ss.2.2.2.1 j else if what = 4 then (ss.2.2.2.2 j).toInt64 else 0
def dd_mvS (ss : dd_SS) (j : Nat) (v : Int64) : dd_SS := (ss.1, vp_updL ss.2.1 j (ss.2.1 j - (if 0 ≤ v then 0 else v)), vp_updL ss.2.2.1 j (ss.2.2.1 j + (if v ≤ 0 then 0 else v)), vp_updL ss.2.2.2.1 j (ss.2.2.2.1 j + v), upd ss.2.2.2.2 j (ss.2.2.2.2 j + (if v = 0 then 0 else 1)))
/-- the first i places of a begun day -/
def dd_bgS (ss : dd_SS) (i : Nat) : dd_SS := (fun p => if p < i then ss.2.2.2.1 p else ss.1 p, fun p => if p < i then 0 else ss.2.1 p, fun p => if p < i then 0 else ss.2.2.1 p, ss.2.2.2.1, fun p => if p < i then 0 else ss.2.2.2.2 p)
theorem dd_bg0 (ss : dd_SS) : dd_bgS ss 0 = ss := by
  simp [dd_bgS]
theorem dd_updL_if {f g : Nat → Int64} {i : Nat} : vp_updL (fun p => if p < i then g p else f p) i (g i) = fun p => if p < i + 1 then g p else f p := by
  funext q
  unfold vp_updL
  by_cases h : q = i
  · subst h; simp
  · rw [if_neg h]
    show (if q < i then g q else f q) = _
    by_cases h2 : q < i
    · rw [if_pos h2, if_pos (by omega)]
    · rw [if_neg h2, if_neg (by omega)]
theorem dd_upd_if {f g : Nat → Int32} {i : Nat} : upd (fun p => if p < i then g p else f p) i (g i) = fun p => if p < i + 1 then g p else f p := by
  funext q
  unfold upd
  by_cases h : q = i
  · subst h; simp
  · rw [if_neg h]
    show (if q < i then g q else f q) = _
    by_cases h2 : q < i
    · rw [if_pos h2, if_pos (by omega)]
    · rw [if_neg h2, if_neg (by omega)]
/-! worlds. Places: 0 DayDesk, 1 clock, 2 sums, 3..7 its arrays, 8 writer, 9 bytes, 10 digits, 11 phases; 12 model, 13 opening, 14 moveOf, 15 moveBy, 16 text -/
abbrev dd_wS (k : Nat → ClassId) (h : Nat → Nat) (u : dd_SS) : va_W := [(h 2, .inr (2, [.ref (h 3), .ref (h 4), .ref (h 5), .ref (h 6), .ref (h 7)])), (h 3, .inl (k 0, 200, .inr (.inl u.1))), (h 4, .inl (k 0, 200, .inr (.inl u.2.1))), (h 5, .inl (k 0, 200, .inr (.inl u.2.2.1))), (h 6, .inl (k 0, 200, .inr (.inl u.2.2.2.1))), (h 7, .inl (k 1, 200, .inl u.2.2.2.2))]
abbrev dd_wC (h : Nat → Nat) (day tick : Int32) : va_W := [(h 1, .inr (1, [.ref (h 11), .int day, .int tick]))]
abbrev dd_wCP (k : Nat → ClassId) (ad h : Nat → Nat) (day tick : Int32) : va_W := [(h 1, .inr (1, [.ref (h 11), .int day, .int tick])), (h 11, .inl (k 3, 5, .inr (.inr (.inr (.inr (fun i => some (ad i)))))))]
abbrev dd_WS : Type := (Nat → Int32) × (Nat → Int32) × Int32
abbrev dd_wW (k : Nat → ClassId) (h : Nat → Nat) (u : dd_WS) : va_W := [(h 8, .inr (3, [.ref (h 9), .ref (h 10), .int u.2.2])), (h 9, .inl (k 2, 120, .inl u.1)), (h 10, .inl (k 2, 20, .inl u.2.1))]
abbrev dd_DS : Type := Int32 × Int32 × dd_SS × dd_WS
abbrev dd_wD (k : Nat → ClassId) (h : Nat → Nat) (u : dd_DS) : va_W := [(h 0, .inr (0, [.ref (h 1), .ref (h 2), .ref (h 8)])), (h 1, .inr (1, [.ref (h 11), .int u.1, .int u.2.1])), (h 2, .inr (2, [.ref (h 3), .ref (h 4), .ref (h 5), .ref (h 6), .ref (h 7)])), (h 3, .inl (k 0, 200, .inr (.inl u.2.2.1.1))), (h 4, .inl (k 0, 200, .inr (.inl u.2.2.1.2.1))), (h 5, .inl (k 0, 200, .inr (.inl u.2.2.1.2.2.1))), (h 6, .inl (k 0, 200, .inr (.inl u.2.2.1.2.2.2.1))), (h 7, .inl (k 1, 200, .inl u.2.2.1.2.2.2.2)), (h 8, .inr (3, [.ref (h 9), .ref (h 10), .int u.2.2.2.2.2])), (h 9, .inl (k 2, 120, .inl u.2.2.2.1)), (h 10, .inl (k 2, 20, .inl u.2.2.2.2.1))]
abbrev dd_wP (k : Nat → ClassId) (ad h : Nat → Nat) : va_W := [(h 11, .inl (k 3, 5, .inr (.inr (.inr (.inr (fun i => some (ad i)))))))]
/-- ticks, opening, moves, moveOf, moveBy, written, text -/
abbrev dd_MS : Type := Int64 × (Nat → Int64) × Int32 × (Nat → Int32) × (Nat → Int64) × Int32 × (Nat → Int32)
abbrev dd_wM (k : Nat → ClassId) (h : Nat → Nat) (u : dd_MS) : va_W := [(h 12, .inr (4, [.long u.1, .ref (h 13), .int u.2.2.1, .ref (h 14), .ref (h 15), .int u.2.2.2.2.2.1, .ref (h 16)])), (h 13, .inl (k 0, 200, .inr (.inl u.2.1))), (h 14, .inl (k 1, 520, .inl u.2.2.2.1)), (h 15, .inl (k 0, 520, .inr (.inl u.2.2.2.2.1))), (h 16, .inl (k 1, 120, .inl u.2.2.2.2.2.2))]
/-! the model's sums over the moves of the day -/
def dd_mW (mf : Nat → Int32) (mb : Nat → Int64) (p : Int32) : Nat → Int64
  | 0 => 0
  | i + 1 => if ¬ mf i = p then dd_mW mf mb p i else if 0 ≤ mb i then dd_mW mf mb p i else dd_mW mf mb p i - mb i
def dd_mC (mf : Nat → Int32) (mb : Nat → Int64) (p : Int32) : Nat → Int64
  | 0 => 0
  | i + 1 => if ¬ mf i = p then dd_mC mf mb p i else if mb i ≤ 0 then dd_mC mf mb p i else dd_mC mf mb p i + mb i
def dd_mN (mf : Nat → Int32) (p : Int32) : Nat → Int64
  | 0 => 0
  | i + 1 => if ¬ mf i = p then dd_mN mf p i else dd_mN mf p i + 1
def dd_rwM (op : Nat → Int64) (mf : Nat → Int32) (mb : Nat → Int64) (n j : Nat) (what : Int32) : Int64 := if ¬ what = 0 then (if ¬ what = 1 then (if ¬ what = 2 then (if ¬ what = 3 then dd_mN mf (nI j) n else op j - dd_mW mf mb (nI j) n + dd_mC mf mb (nI j) n) else dd_mC mf mb (nI j) n) else dd_mW mf mb (nI j) n) else op j
def dd_tkM (ticks : Int64) : Int32 := (ticks - ticks / 1000 * 1000).toInt32
end
section
/-! contracts: static helpers, reads of the sums, the constants -/
set_option maxHeartbeats 4000000 in
set_option maxRecDepth 100000 in
theorem c_C_isResolved (l : Launch) (t : Int32) : Met l y_C_isResolved w_C_isResolved ({ frames := 0, cells := 0, slots := 0, locals := 0 }) (dd_PS [.int t]) (vp_Si (fun r => r = dd_rsv t)) 0 0 (fun _ => False) := by
  refine Met.ofW (cc := b_C_isResolved) (maxL := 1) (ret := (some FieldType.boolean)) (by decide) rfl ?_
  intro p e s m args below meth c s₁ B hml hv
  obtain ⟨rfl, -⟩ := hv
  have hx := B.exec
  have hb := B.bytes
  have hr := B.returns
  have htb := dd_tb (atoms_spec (ws := w_C_isResolved) B.pre)
  have hown : s.vm.findClass "DayDesk$DayClock" = some m.cls := findClass_of_methodNamed B.named
  have hlocks := B.notSynchronized
  have hl := lv_entry ([.int t]) (n := 1) (Nat.le_of_ble_eq_true rfl)
  rw [lg_entry_eq]
  generalize (lg_sl ([.int t]) ++ List.replicate (1 - (lg_sl ([.int t])).length) Slot.unset).toArray = ls at hl ⊢
  have hl : lv_has ls 1 [(0, .int t)] := hl
  refine lv_iload_n hx hb d_C_isResolved_0 rfl (lv_at hl 0 rfl) ?_
  refine lv_sipush (v := 150) hx hb d_C_isResolved_1 (by decide) ?_
  refine lv_icmp_lt (tgt := 25) hx hb d_C_isResolved_4 (by decide) (fun c_1 => ?_) (fun c_1 => ?_)
  · refine lv_iconst (v := 0) hx hb d_C_isResolved_25 (by decide) ?_
    exact W.zret (v := 0) hx hb hr (by decide) (fun t ht hW => ⟨0, rfl, by unfold dd_rsv; rw [if_pos c_1], ht⟩) (fun q h => by cases h) d_C_isResolved_26
  · refine lv_iload_n hx hb d_C_isResolved_7 rfl (lv_at hl 0 rfl) ?_
    refine lv_sipush (v := 900) hx hb d_C_isResolved_8 (by decide) ?_
    refine lv_icmp_gt (tgt := 25) hx hb d_C_isResolved_11 (by decide) (fun c_2 => ?_) (fun c_2 => ?_)
    · refine lv_iconst (v := 0) hx hb d_C_isResolved_25 (by decide) ?_
      exact W.zret (v := 0) hx hb hr (by decide) (fun t ht hW => ⟨0, rfl, by unfold dd_rsv; rw [if_neg c_1, if_pos c_2], ht⟩) (fun q h => by cases h) d_C_isResolved_26
    · refine lv_iload_n hx hb d_C_isResolved_14 rfl (lv_at hl 0 rfl) ?_
      refine lv_bipush (v := 50) hx hb d_C_isResolved_15 (by decide) ?_
      refine lv_irem hx hb d_C_isResolved_17 (by decide) ?_
      refine lv_if_ne (tgt := 25) hx hb d_C_isResolved_18 (by decide) (fun c_3 => ?_) (fun c_3 => ?_)
      · refine lv_iconst (v := 0) hx hb d_C_isResolved_25 (by decide) ?_
        exact W.zret (v := 0) hx hb hr (by decide) (fun t ht hW => ⟨0, rfl, by unfold dd_rsv; rw [if_neg c_1, if_neg c_2, if_pos c_3], ht⟩) (fun q h => by cases h) d_C_isResolved_26
      · refine lv_iconst (v := 1) hx hb d_C_isResolved_21 (by decide) ?_
        refine lv_goto (tgt := 26) hx hb d_C_isResolved_22 (by decide) ?_
        exact W.zret (v := 1) hx hb hr (by decide) (fun t ht hW => ⟨1, rfl, by unfold dd_rsv; rw [if_neg c_1, if_neg c_2, if_neg (not_not_intro c_3)], ht⟩) (fun q h => by cases h) d_C_isResolved_26
set_option maxHeartbeats 4000000 in
set_option maxRecDepth 100000 in
theorem c_M_isResolved (l : Launch) (t : Int32) : Met l y_M_isResolved w_M_isResolved ({ frames := 0, cells := 0, slots := 0, locals := 0 }) (dd_PS [.int t]) (vp_Si (fun r => r = dd_rsv t)) 0 0 (fun _ => False) := by
  refine Met.ofW (cc := b_M_isResolved) (maxL := 1) (ret := (some FieldType.boolean)) (by decide) rfl ?_
  intro p e s m args below meth c s₁ B hml hv
  obtain ⟨rfl, -⟩ := hv
  have hx := B.exec
  have hb := B.bytes
  have hr := B.returns
  have htb := dd_tb (atoms_spec (ws := w_M_isResolved) B.pre)
  have hown : s.vm.findClass "DayDeskModel" = some m.cls := findClass_of_methodNamed B.named
  have hlocks := B.notSynchronized
  have hl := lv_entry ([.int t]) (n := 1) (Nat.le_of_ble_eq_true rfl)
  rw [lg_entry_eq]
  generalize (lg_sl ([.int t]) ++ List.replicate (1 - (lg_sl ([.int t])).length) Slot.unset).toArray = ls at hl ⊢
  have hl : lv_has ls 1 [(0, .int t)] := hl
  refine lv_iload_n hx hb d_M_isResolved_0 rfl (lv_at hl 0 rfl) ?_
  refine lv_sipush (v := 150) hx hb d_M_isResolved_1 (by decide) ?_
  refine lv_icmp_lt (tgt := 25) hx hb d_M_isResolved_4 (by decide) (fun c_1 => ?_) (fun c_1 => ?_)
  · refine lv_iconst (v := 0) hx hb d_M_isResolved_25 (by decide) ?_
    exact W.zret (v := 0) hx hb hr (by decide) (fun t ht hW => ⟨0, rfl, by unfold dd_rsv; rw [if_pos c_1], ht⟩) (fun q h => by cases h) d_M_isResolved_26
  · refine lv_iload_n hx hb d_M_isResolved_7 rfl (lv_at hl 0 rfl) ?_
    refine lv_sipush (v := 900) hx hb d_M_isResolved_8 (by decide) ?_
    refine lv_icmp_gt (tgt := 25) hx hb d_M_isResolved_11 (by decide) (fun c_2 => ?_) (fun c_2 => ?_)
    · refine lv_iconst (v := 0) hx hb d_M_isResolved_25 (by decide) ?_
      exact W.zret (v := 0) hx hb hr (by decide) (fun t ht hW => ⟨0, rfl, by unfold dd_rsv; rw [if_neg c_1, if_pos c_2], ht⟩) (fun q h => by cases h) d_M_isResolved_26
    · refine lv_iload_n hx hb d_M_isResolved_14 rfl (lv_at hl 0 rfl) ?_
      refine lv_bipush (v := 50) hx hb d_M_isResolved_15 (by decide) ?_
      refine lv_irem hx hb d_M_isResolved_17 (by decide) ?_
      refine lv_if_ne (tgt := 25) hx hb d_M_isResolved_18 (by decide) (fun c_3 => ?_) (fun c_3 => ?_)
      · refine lv_iconst (v := 0) hx hb d_M_isResolved_25 (by decide) ?_
        exact W.zret (v := 0) hx hb hr (by decide) (fun t ht hW => ⟨0, rfl, by unfold dd_rsv; rw [if_neg c_1, if_neg c_2, if_pos c_3], ht⟩) (fun q h => by cases h) d_M_isResolved_26
      · refine lv_iconst (v := 1) hx hb d_M_isResolved_21 (by decide) ?_
        refine lv_goto (tgt := 26) hx hb d_M_isResolved_22 (by decide) ?_
        exact W.zret (v := 1) hx hb hr (by decide) (fun t ht hW => ⟨1, rfl, by unfold dd_rsv; rw [if_neg c_1, if_neg c_2, if_neg (not_not_intro c_3)], ht⟩) (fun q h => by cases h) d_M_isResolved_26
set_option maxHeartbeats 4000000 in
set_option maxRecDepth 100000 in
theorem c_M_phaseOf (l : Launch) (t : Int32) : Met l y_M_phaseOf w_M_phaseOf ({ frames := 0, cells := 0, slots := 0, locals := 0 }) (dd_PS [.int t]) (vp_Si (fun r => r = dd_ph t)) 0 0 (fun _ => False) := by
  refine Met.ofW (cc := b_M_phaseOf) (maxL := 1) (ret := (some FieldType.int)) (by decide) rfl ?_
  intro p e s m args below meth c s₁ B hml hv
  obtain ⟨rfl, -⟩ := hv
  have hx := B.exec
  have hb := B.bytes
  have hr := B.returns
  have htb := dd_tb (atoms_spec (ws := w_M_phaseOf) B.pre)
  have hown : s.vm.findClass "DayDeskModel" = some m.cls := findClass_of_methodNamed B.named
  have hlocks := B.notSynchronized
  have hl := lv_entry ([.int t]) (n := 1) (Nat.le_of_ble_eq_true rfl)
  rw [lg_entry_eq]
  generalize (lg_sl ([.int t]) ++ List.replicate (1 - (lg_sl ([.int t])).length) Slot.unset).toArray = ls at hl ⊢
  have hl : lv_has ls 1 [(0, .int t)] := hl
  refine lv_iload_n hx hb d_M_phaseOf_0 rfl (lv_at hl 0 rfl) ?_
  refine lv_bipush (v := 100) hx hb d_M_phaseOf_1 (by decide) ?_
  refine lv_icmp_ge (tgt := 10) hx hb d_M_phaseOf_3 (by decide) (fun c_1 => ?_) (fun c_1 => ?_)
  · refine lv_iload_n hx hb d_M_phaseOf_10 rfl (lv_at hl 0 rfl) ?_
    refine lv_sipush (v := 700) hx hb d_M_phaseOf_11 (by decide) ?_
    refine lv_icmp_ge (tgt := 21) hx hb d_M_phaseOf_14 (by decide) (fun c_2 => ?_) (fun c_2 => ?_)
    · refine lv_iload_n hx hb d_M_phaseOf_21 rfl (lv_at hl 0 rfl) ?_
      refine lv_sipush (v := 800) hx hb d_M_phaseOf_22 (by decide) ?_
      refine lv_icmp_ge (tgt := 32) hx hb d_M_phaseOf_25 (by decide) (fun c_3 => ?_) (fun c_3 => ?_)
      · refine lv_iload_n hx hb d_M_phaseOf_32 rfl (lv_at hl 0 rfl) ?_
        refine lv_sipush (v := 900) hx hb d_M_phaseOf_33 (by decide) ?_
        refine lv_icmp_ge (tgt := 43) hx hb d_M_phaseOf_36 (by decide) (fun c_4 => ?_) (fun c_4 => ?_)
        · refine lv_iconst (v := 4) hx hb d_M_phaseOf_43 (by decide) ?_
          exact W.iret (v := 4) hx hb hr (fun t ht hW => ⟨4, rfl, by unfold dd_ph; rw [if_pos c_1, if_pos c_2, if_pos c_3, if_pos c_4], ht⟩) (fun q h => by cases h) d_M_phaseOf_44
        · refine lv_iconst (v := 3) hx hb d_M_phaseOf_39 (by decide) ?_
          refine lv_goto (tgt := 44) hx hb d_M_phaseOf_40 (by decide) ?_
          exact W.iret (v := 3) hx hb hr (fun t ht hW => ⟨3, rfl, by unfold dd_ph; rw [if_pos c_1, if_pos c_2, if_pos c_3, if_neg c_4], ht⟩) (fun q h => by cases h) d_M_phaseOf_44
      · refine lv_iconst (v := 2) hx hb d_M_phaseOf_28 (by decide) ?_
        refine lv_goto (tgt := 44) hx hb d_M_phaseOf_29 (by decide) ?_
        exact W.iret (v := 2) hx hb hr (fun t ht hW => ⟨2, rfl, by unfold dd_ph; rw [if_pos c_1, if_pos c_2, if_neg c_3], ht⟩) (fun q h => by cases h) d_M_phaseOf_44
    · refine lv_iconst (v := 1) hx hb d_M_phaseOf_17 (by decide) ?_
      refine lv_goto (tgt := 44) hx hb d_M_phaseOf_18 (by decide) ?_
      exact W.iret (v := 1) hx hb hr (fun t ht hW => ⟨1, rfl, by unfold dd_ph; rw [if_pos c_1, if_neg c_2], ht⟩) (fun q h => by cases h) d_M_phaseOf_44
  · refine lv_iconst (v := 0) hx hb d_M_phaseOf_6 (by decide) ?_
    refine lv_goto (tgt := 44) hx hb d_M_phaseOf_7 (by decide) ?_
    exact W.iret (v := 0) hx hb hr (fun t ht hW => ⟨0, rfl, by unfold dd_ph; rw [if_neg c_1], ht⟩) (fun q h => by cases h) d_M_phaseOf_44
set_option maxHeartbeats 4000000 in
set_option maxRecDepth 100000 in
theorem c_M_isPosition (l : Launch) (q : Int32) : Met l y_M_isPosition w_M_isPosition ({ frames := 0, cells := 0, slots := 0, locals := 0 }) (dd_PS [.int q]) (vp_Si (fun r => r = dd_isP q)) 0 0 (fun _ => False) := by
  refine Met.ofW (cc := b_M_isPosition) (maxL := 1) (ret := (some FieldType.boolean)) (by decide) rfl ?_
  intro p e s m args below meth c s₁ B hml hv
  obtain ⟨rfl, -⟩ := hv
  have hx := B.exec
  have hb := B.bytes
  have hr := B.returns
  have htb := dd_tb (atoms_spec (ws := w_M_isPosition) B.pre)
  have hown : s.vm.findClass "DayDeskModel" = some m.cls := findClass_of_methodNamed B.named
  have hlocks := B.notSynchronized
  have hl := lv_entry ([.int q]) (n := 1) (Nat.le_of_ble_eq_true rfl)
  rw [lg_entry_eq]
  generalize (lg_sl ([.int q]) ++ List.replicate (1 - (lg_sl ([.int q])).length) Slot.unset).toArray = ls at hl ⊢
  have hl : lv_has ls 1 [(0, .int q)] := hl
  refine lv_iload_n hx hb d_M_isPosition_0 rfl (lv_at hl 0 rfl) ?_
  refine lv_if_lt (tgt := 15) hx hb d_M_isPosition_1 (by decide) (fun c_1 => ?_) (fun c_1 => ?_)
  · refine lv_iconst (v := 0) hx hb d_M_isPosition_15 (by decide) ?_
    exact W.zret (v := 0) hx hb hr (by decide) (fun t ht hW => ⟨0, rfl, by unfold dd_isP; rw [if_pos c_1], ht⟩) (fun q h => by cases h) d_M_isPosition_16
  · refine lv_iload_n hx hb d_M_isPosition_4 rfl (lv_at hl 0 rfl) ?_
    refine lv_sipush (v := 200) hx hb d_M_isPosition_5 (by decide) ?_
    refine lv_icmp_ge (tgt := 15) hx hb d_M_isPosition_8 (by decide) (fun c_2 => ?_) (fun c_2 => ?_)
    · refine lv_iconst (v := 0) hx hb d_M_isPosition_15 (by decide) ?_
      exact W.zret (v := 0) hx hb hr (by decide) (fun t ht hW => ⟨0, rfl, by unfold dd_isP; rw [if_neg c_1, if_pos c_2], ht⟩) (fun q h => by cases h) d_M_isPosition_16
    · refine lv_iconst (v := 1) hx hb d_M_isPosition_11 (by decide) ?_
      refine lv_goto (tgt := 16) hx hb d_M_isPosition_12 (by decide) ?_
      exact W.zret (v := 1) hx hb hr (by decide) (fun t ht hW => ⟨1, rfl, by unfold dd_isP; rw [if_neg c_1, if_neg c_2], ht⟩) (fun q h => by cases h) d_M_isPosition_16
set_option maxHeartbeats 4000000 in
set_option maxRecDepth 100000 in
theorem c_M_isWithin (l : Launch) (v : Int64) : Met l y_M_isWithin w_M_isWithin ({ frames := 0, cells := 0, slots := 0, locals := 0 }) (dd_PS [.long v]) (vp_Si (fun r => r = dd_inW v 9000000000000000000)) 0 0 (fun _ => False) := by
  refine Met.ofW (cc := b_M_isWithin) (maxL := 2) (ret := (some FieldType.boolean)) (by decide) rfl ?_
  intro p e s m args below meth c s₁ B hml hv
  obtain ⟨rfl, -⟩ := hv
  have hx := B.exec
  have hb := B.bytes
  have hr := B.returns
  have htb := dd_tb (atoms_spec (ws := w_M_isWithin) B.pre)
  have hown : s.vm.findClass "DayDeskModel" = some m.cls := findClass_of_methodNamed B.named
  have hlocks := B.notSynchronized
  have hl := lv_entry ([.long v]) (n := 2) (Nat.le_of_ble_eq_true rfl)
  rw [lg_entry_eq]
  generalize (lg_sl ([.long v]) ++ List.replicate (2 - (lg_sl ([.long v])).length) Slot.unset).toArray = ls at hl ⊢
  have hl : lv_has ls 2 [(0, .long v)] := hl
  refine lv_lload_n hx hb d_M_isWithin_0 rfl (lv_at hl 0 rfl) ?_
  refine lv_ldc2 (v := (-9000000000000000000)) hx hb hown (htb _ tb_285) d_M_isWithin_1 ?_
  refine dd_lc_lt (tgt := 20) hx hb d_M_isWithin_4 d_M_isWithin_5 (by decide) (fun c_1 => ?_) (fun c_1 => ?_)
  · refine lv_iconst (v := 0) hx hb d_M_isWithin_20 (by decide) ?_
    exact W.zret (v := 0) hx hb hr (by decide) (fun t ht hW => ⟨0, rfl, by unfold dd_inW; rw [if_pos c_1], ht⟩) (fun q h => by cases h) d_M_isWithin_21
  · refine lv_lload_n hx hb d_M_isWithin_8 rfl (lv_at hl 0 rfl) ?_
    refine lv_ldc2 (v := 9000000000000000000) hx hb hown (htb _ tb_286) d_M_isWithin_9 ?_
    refine dd_lc_gt (tgt := 20) hx hb d_M_isWithin_12 d_M_isWithin_13 (by decide) (fun c_2 => ?_) (fun c_2 => ?_)
    · refine lv_iconst (v := 0) hx hb d_M_isWithin_20 (by decide) ?_
      exact W.zret (v := 0) hx hb hr (by decide) (fun t ht hW => ⟨0, rfl, by unfold dd_inW; rw [if_neg c_1, if_pos c_2], ht⟩) (fun q h => by cases h) d_M_isWithin_21
    · refine lv_iconst (v := 1) hx hb d_M_isWithin_16 (by decide) ?_
      refine lv_goto (tgt := 21) hx hb d_M_isWithin_17 (by decide) ?_
      exact W.zret (v := 1) hx hb hr (by decide) (fun t ht hW => ⟨1, rfl, by unfold dd_inW; rw [if_neg c_1, if_neg c_2], ht⟩) (fun q h => by cases h) d_M_isWithin_21
set_option maxHeartbeats 4000000 in
set_option maxRecDepth 100000 in
theorem c_S_isWithin (l : Launch) (v n : Int64) : Met l y_S_isWithin w_S_isWithin ({ frames := 0, cells := 0, slots := 0, locals := 0 }) (dd_PS [.long v, .long n]) (vp_Si (fun r => r = dd_inW v n)) 0 0 (fun _ => False) := by
  refine Met.ofW (cc := b_S_isWithin) (maxL := 4) (ret := (some FieldType.boolean)) (by decide) rfl ?_
  intro p e s m args below meth c s₁ B hml hv
  obtain ⟨rfl, -⟩ := hv
  have hx := B.exec
  have hb := B.bytes
  have hr := B.returns
  have htb := dd_tb (atoms_spec (ws := w_S_isWithin) B.pre)
  have hown : s.vm.findClass "DayDesk$Sums" = some m.cls := findClass_of_methodNamed B.named
  have hlocks := B.notSynchronized
  have hl := lv_entry ([.long v, .long n]) (n := 4) (Nat.le_of_ble_eq_true rfl)
  rw [lg_entry_eq]
  generalize (lg_sl ([.long v, .long n]) ++ List.replicate (4 - (lg_sl ([.long v, .long n])).length) Slot.unset).toArray = ls at hl ⊢
  have hl : lv_has ls 4 [(0, .long v), (2, .long n)] := hl
  refine lv_lload_n hx hb d_S_isWithin_0 rfl (lv_at hl 0 rfl) ?_
  refine lv_lload_n hx hb d_S_isWithin_1 rfl (lv_at hl 1 rfl) ?_
  refine lv_lneg hx hb d_S_isWithin_2 ?_
  refine dd_lc_lt (tgt := 17) hx hb d_S_isWithin_3 d_S_isWithin_4 (by decide) (fun c_1 => ?_) (fun c_1 => ?_)
  · refine lv_iconst (v := 0) hx hb d_S_isWithin_17 (by decide) ?_
    exact W.zret (v := 0) hx hb hr (by decide) (fun t ht hW => ⟨0, rfl, by unfold dd_inW; rw [if_pos c_1], ht⟩) (fun q h => by cases h) d_S_isWithin_18
  · refine lv_lload_n hx hb d_S_isWithin_7 rfl (lv_at hl 0 rfl) ?_
    refine lv_lload_n hx hb d_S_isWithin_8 rfl (lv_at hl 1 rfl) ?_
    refine dd_lc_gt (tgt := 17) hx hb d_S_isWithin_9 d_S_isWithin_10 (by decide) (fun c_2 => ?_) (fun c_2 => ?_)
    · refine lv_iconst (v := 0) hx hb d_S_isWithin_17 (by decide) ?_
      exact W.zret (v := 0) hx hb hr (by decide) (fun t ht hW => ⟨0, rfl, by unfold dd_inW; rw [if_neg c_1, if_pos c_2], ht⟩) (fun q h => by cases h) d_S_isWithin_18
    · refine lv_iconst (v := 1) hx hb d_S_isWithin_13 (by decide) ?_
      refine lv_goto (tgt := 18) hx hb d_S_isWithin_14 (by decide) ?_
      exact W.zret (v := 1) hx hb hr (by decide) (fun t ht hW => ⟨1, rfl, by unfold dd_inW; rw [if_neg c_1, if_neg c_2], ht⟩) (fun q h => by cases h) d_S_isWithin_18
set_option maxHeartbeats 4000000 in
set_option maxRecDepth 100000 in
theorem c_S_isPosition (l : Launch) (D : va_G) (k : Nat → ClassId) (h : Nat → Nat) (ss : dd_SS) (q : Int32) : Met l y_S_isPosition w_S_isPosition ({ frames := 0, cells := 0, slots := 0, locals := 0 }) (dd_PR D k (dd_wS k h ss) [.ref (h 2), .int q]) (vp_Si (fun r => r = dd_isP q)) 0 0 (fun _ => False) := by
  refine Met.ofW (cc := b_S_isPosition) (maxL := 2) (ret := (some FieldType.boolean)) (by decide) rfl ?_
  intro p e s m args below meth c s₁ B hml hv
  obtain ⟨rfl, hP, hK, hN⟩ := hv
  have hx := B.exec
  have hb := B.bytes
  have hr := B.returns
  have htb := dd_tb (atoms_spec (ws := w_S_isPosition) B.pre)
  have hown : s.vm.findClass "DayDesk$Sums" = some m.cls := findClass_of_methodNamed B.named
  have hlocks := B.notSynchronized
  have hS : va_S (fun _ => False) s.heap s.heap [] := va_S.rf
  have hP : va_P D dd_cl [((h 2), .inr (2, [.ref (h 3), .ref (h 4), .ref (h 5), .ref (h 6), .ref (h 7)])), ((h 3), .inl (k 0, 200, .inr (.inl ss.1))), ((h 4), .inl (k 0, 200, .inr (.inl ss.2.1))), ((h 5), .inl (k 0, 200, .inr (.inl ss.2.2.1))), ((h 6), .inl (k 0, 200, .inr (.inl ss.2.2.2.1))), ((h 7), .inl (k 1, 200, .inl ss.2.2.2.2))] s.heap := hP
  have hl := lv_entry ([.ref (h 2), .int q]) (n := 2) (Nat.le_of_ble_eq_true rfl)
  rw [lg_entry_eq]
  generalize (lg_sl ([.ref (h 2), .int q]) ++ List.replicate (2 - (lg_sl ([.ref (h 2), .int q])).length) Slot.unset).toArray = ls at hl ⊢
  have hl : lv_has ls 2 [(0, .ref (h 2)), (1, .int q)] := hl
  refine lv_iload_n hx hb d_S_isPosition_0 rfl (lv_at hl 1 rfl) ?_
  refine lv_if_lt (tgt := 17) hx hb d_S_isPosition_1 (by decide) (fun c_1 => ?_) (fun c_1 => ?_)
  · refine lv_iconst (v := 0) hx hb d_S_isPosition_17 (by decide) ?_
    exact W.zret (v := 0) hx hb hr (by decide) (fun t ht hW => ⟨0, rfl, by unfold dd_isP; rw [if_pos c_1], ht⟩) (fun q h => by cases h) d_S_isPosition_18
  · refine lv_iload_n hx hb d_S_isPosition_4 rfl (lv_at hl 1 rfl) ?_
    refine lv_aload_n hx hb d_S_isPosition_5 rfl (lv_at hl 0 rfl) ?_
    refine va_get (D := D) (ci := 2) (v := .ref (h 6)) (C := R_S) (T := F_S) (N := 5) hx hb htb i_S hown hK hP 0 rfl rfl 3 (by decide) (htb _ tb_56) (fun _ h9 => h9) rfl d_S_isPosition_6 ?_
    refine va_alen (v := 200) hx hb hK hP 4 0 rfl rfl (show Int32.ofNat 200 = 200 by decide) d_S_isPosition_9 ?_
    refine lv_icmp_ge (tgt := 17) hx hb d_S_isPosition_10 (by decide) (fun c_2 => ?_) (fun c_2 => ?_)
    · refine lv_iconst (v := 0) hx hb d_S_isPosition_17 (by decide) ?_
      exact W.zret (v := 0) hx hb hr (by decide) (fun t ht hW => ⟨0, rfl, by unfold dd_isP; rw [if_neg c_1, if_pos c_2], ht⟩) (fun q h => by cases h) d_S_isPosition_18
    · refine lv_iconst (v := 1) hx hb d_S_isPosition_13 (by decide) ?_
      refine lv_goto (tgt := 18) hx hb d_S_isPosition_14 (by decide) ?_
      exact W.zret (v := 1) hx hb hr (by decide) (fun t ht hW => ⟨1, rfl, by unfold dd_isP; rw [if_neg c_1, if_neg c_2], ht⟩) (fun q h => by cases h) d_S_isPosition_18
set_option maxHeartbeats 4000000 in
set_option maxRecDepth 100000 in
theorem c_S_isTold (l : Launch) (D : va_G) (k : Nat → ClassId) (h : Nat → Nat) (ss : dd_SS) (j : Nat) (hj : j < 200) : Met l y_S_isTold w_S_isTold ({ frames := 0, cells := 0, slots := 0, locals := 0 }) (dd_PR D k (dd_wS k h ss) [.ref (h 2), .int (nI j)]) (vp_Si (fun r => r = dd_tdS ss j)) 0 0 (fun _ => False) := by
  refine Met.ofW (cc := b_S_isTold) (maxL := 2) (ret := (some FieldType.boolean)) (by decide) rfl ?_
  intro p e s m args below meth c s₁ B hml hv
  obtain ⟨rfl, hP, hK, hN⟩ := hv
  have hx := B.exec
  have hb := B.bytes
  have hr := B.returns
  have htb := dd_tb (atoms_spec (ws := w_S_isTold) B.pre)
  have hown : s.vm.findClass "DayDesk$Sums" = some m.cls := findClass_of_methodNamed B.named
  have hlocks := B.notSynchronized
  have hS : va_S (fun _ => False) s.heap s.heap [] := va_S.rf
  have hP : va_P D dd_cl [((h 2), .inr (2, [.ref (h 3), .ref (h 4), .ref (h 5), .ref (h 6), .ref (h 7)])), ((h 3), .inl (k 0, 200, .inr (.inl ss.1))), ((h 4), .inl (k 0, 200, .inr (.inl ss.2.1))), ((h 5), .inl (k 0, 200, .inr (.inl ss.2.2.1))), ((h 6), .inl (k 0, 200, .inr (.inl ss.2.2.2.1))), ((h 7), .inl (k 1, 200, .inl ss.2.2.2.2))] s.heap := hP
  have hl := lv_entry ([.ref (h 2), .int (nI j)]) (n := 2) (Nat.le_of_ble_eq_true rfl)
  rw [lg_entry_eq]
  generalize (lg_sl ([.ref (h 2), .int (nI j)]) ++ List.replicate (2 - (lg_sl ([.ref (h 2), .int (nI j)])).length) Slot.unset).toArray = ls at hl ⊢
  have hl : lv_has ls 2 [(0, .ref (h 2)), (1, .int (nI j))] := hl
  refine lv_aload_n hx hb d_S_isTold_0 rfl (lv_at hl 0 rfl) ?_
  refine va_get (D := D) (ci := 2) (v := .ref (h 3)) (C := R_S) (T := F_S) (N := 5) hx hb htb i_S hown hK hP 0 rfl rfl 0 (by decide) (htb _ tb_53) (fun _ h9 => h9) rfl d_S_isTold_1 ?_
  refine lv_iload_n hx hb d_S_isTold_4 rfl (lv_at hl 1 rfl) ?_
  refine dd_lald (j := j) hx hb hK hP 1 0 rfl rfl rfl hj (by decide) d_S_isTold_5 ?_
  refine lv_lconst (v := 0) hx hb d_S_isTold_6 (by decide) ?_
  refine dd_lc_ne (tgt := 20) hx hb d_S_isTold_7 d_S_isTold_8 (by decide) (fun c_1 => ?_) (fun c_1 => ?_)
  · refine lv_iconst (v := 1) hx hb d_S_isTold_20 (by decide) ?_
    refine lv_goto (tgt := 25) hx hb d_S_isTold_21 (by decide) ?_
    exact W.zret (v := 1) hx hb hr (by decide) (fun t ht hW => ⟨1, rfl, by unfold dd_tdS; rw [if_pos c_1], ht⟩) (fun q h => by cases h) d_S_isTold_25
  · refine lv_aload_n hx hb d_S_isTold_11 rfl (lv_at hl 0 rfl) ?_
    refine va_get (D := D) (ci := 2) (v := .ref (h 7)) (C := R_S) (T := F_S) (N := 5) hx hb htb i_S hown hK hP 0 rfl rfl 4 (by decide) (htb _ tb_57) (fun _ h9 => h9) rfl d_S_isTold_12 ?_
    refine lv_iload_n hx hb d_S_isTold_15 rfl (lv_at hl 1 rfl) ?_
    refine dd_iald (j := j) hx hb hK hP 5 1 rfl rfl rfl hj (by decide) d_S_isTold_16 ?_
    refine lv_if_le (tgt := 24) hx hb d_S_isTold_17 (by decide) (fun c_2 => ?_) (fun c_2 => ?_)
    · refine lv_iconst (v := 0) hx hb d_S_isTold_24 (by decide) ?_
      exact W.zret (v := 0) hx hb hr (by decide) (fun t ht hW => ⟨0, rfl, by unfold dd_tdS; rw [if_neg (not_not_intro c_1), if_pos c_2], ht⟩) (fun q h => by cases h) d_S_isTold_25
    · refine lv_iconst (v := 1) hx hb d_S_isTold_20 (by decide) ?_
      refine lv_goto (tgt := 25) hx hb d_S_isTold_21 (by decide) ?_
      exact W.zret (v := 1) hx hb hr (by decide) (fun t ht hW => ⟨1, rfl, by unfold dd_tdS; rw [if_neg (not_not_intro c_1), if_neg c_2], ht⟩) (fun q h => by cases h) d_S_isTold_25
set_option maxHeartbeats 4000000 in
set_option maxRecDepth 100000 in
theorem c_S_canMove (l : Launch) (D : va_G) (k : Nat → ClassId) (h : Nat → Nat) (ss : dd_SS) (j : Nat) (hj : j < 200) (v : Int64) : Met l y_S_canMove w_S_canMove ({ frames := 1, cells := 0, slots := 0, locals := 23 }) (dd_PR D k (dd_wS k h ss) [.ref (h 2), .int (nI j), .long v]) (vp_Si (fun r => r = dd_cnS ss j v)) 0 0 (fun _ => False) := by
  refine Met.ofW (cc := b_S_canMove) (maxL := 4) (ret := (some FieldType.boolean)) (by decide) rfl ?_
  intro p e s m args below meth c s₁ B hml hv
  obtain ⟨rfl, hP, hK, hN⟩ := hv
  have hx := B.exec
  have hb := B.bytes
  have hr := B.returns
  have htb := dd_tb (atoms_spec (ws := w_S_canMove) B.pre)
  have hown : s.vm.findClass "DayDesk$Sums" = some m.cls := findClass_of_methodNamed B.named
  have hlocks := B.notSynchronized
  have hS : va_S (fun _ => False) s.heap s.heap [] := va_S.rf
  have hP : va_P D dd_cl [((h 2), .inr (2, [.ref (h 3), .ref (h 4), .ref (h 5), .ref (h 6), .ref (h 7)])), ((h 3), .inl (k 0, 200, .inr (.inl ss.1))), ((h 4), .inl (k 0, 200, .inr (.inl ss.2.1))), ((h 5), .inl (k 0, 200, .inr (.inl ss.2.2.1))), ((h 6), .inl (k 0, 200, .inr (.inl ss.2.2.2.1))), ((h 7), .inl (k 1, 200, .inl ss.2.2.2.2))] s.heap := hP
  have hl := lv_entry ([.ref (h 2), .int (nI j), .long v]) (n := 4) (Nat.le_of_ble_eq_true rfl)
  rw [lg_entry_eq]
  generalize (lg_sl ([.ref (h 2), .int (nI j), .long v]) ++ List.replicate (4 - (lg_sl ([.ref (h 2), .int (nI j), .long v])).length) Slot.unset).toArray = ls at hl ⊢
  have hl : lv_has ls 4 [(0, .ref (h 2)), (1, .int (nI j)), (2, .long v)] := hl
  refine lv_lload_n hx hb d_S_canMove_0 rfl (lv_at hl 2 rfl) ?_
  refine lv_ldc2 (v := 10000000000000000) hx hb hown (htb _ tb_166) d_S_canMove_1 ?_
  refine vp_callSi (va_Run.run (va_runS (As := [.long v, .long 10000000000000000]) (rest := []) ⟨hx, hb, hml, hown, htb⟩ (c_S_isWithin l v 10000000000000000) (va_cwS 2 htb (dd_gS tb_167 tb_168 tb_5 tb_169) rfl rfl rfl hd_S_isWithin.2 ⟨Nat.le_of_ble_eq_true rfl, Nat.le_of_ble_eq_true rfl⟩) ⟨dd_PS.bl, dd_PS.of⟩ rfl rfl hl.1 rfl (lv_room (Nat.le_of_ble_eq_true rfl)) d_S_canMove_4 ⟨Nat.le_of_ble_eq_true rfl, Nat.le_of_ble_eq_true rfl⟩)) (fun r_1 er_1 => ?_)
  subst er_1
  refine lv_if_eq (tgt := 65) hx hb d_S_canMove_7 (by decide) (fun c_2 => ?_) (fun c_2 => ?_)
  · refine lv_iconst (v := 0) hx hb d_S_canMove_65 (by decide) ?_
    exact W.zret (v := 0) hx hb hr (by decide) (fun t ht hW => ⟨0, rfl, by unfold dd_cnS; rw [if_pos c_2], ht⟩) (fun q h => by cases h) d_S_canMove_66
  · refine lv_aload_n hx hb d_S_canMove_10 rfl (lv_at hl 0 rfl) ?_
    refine va_get (D := D) (ci := 2) (v := .ref (h 6)) (C := R_S) (T := F_S) (N := 5) hx hb htb i_S hown hK hP 0 rfl rfl 3 (by decide) (htb _ tb_56) (fun _ h9 => h9) rfl d_S_canMove_11 ?_
    refine lv_iload_n hx hb d_S_canMove_14 rfl (lv_at hl 1 rfl) ?_
    refine dd_lald (j := j) hx hb hK hP 4 0 rfl rfl rfl hj (by decide) d_S_canMove_15 ?_
    refine lv_lload_n hx hb d_S_canMove_16 rfl (lv_at hl 2 rfl) ?_
    refine lv_ladd hx hb d_S_canMove_17 ?_
    refine lv_ldc2 (v := 9000000000000000000) hx hb hown (htb _ tb_170) d_S_canMove_18 ?_
    refine vp_callSi (va_Run.run (va_runS (As := [.long ((ss.2.2.2.1 j) + v), .long 9000000000000000000]) (rest := []) ⟨hx, hb, hml, hown, htb⟩ (c_S_isWithin l ((ss.2.2.2.1 j) + v) 9000000000000000000) (va_cwS 2 htb (dd_gS tb_167 tb_168 tb_5 tb_169) rfl rfl rfl hd_S_isWithin.2 ⟨Nat.le_of_ble_eq_true rfl, Nat.le_of_ble_eq_true rfl⟩) ⟨dd_PS.bl, dd_PS.of⟩ rfl rfl hl.1 rfl (lv_room (Nat.le_of_ble_eq_true rfl)) d_S_canMove_21 ⟨Nat.le_of_ble_eq_true rfl, Nat.le_of_ble_eq_true rfl⟩)) (fun r_3 er_3 => ?_)
    subst er_3
    refine lv_if_eq (tgt := 65) hx hb d_S_canMove_24 (by decide) (fun c_4 => ?_) (fun c_4 => ?_)
    · refine lv_iconst (v := 0) hx hb d_S_canMove_65 (by decide) ?_
      exact W.zret (v := 0) hx hb hr (by decide) (fun t ht hW => ⟨0, rfl, by unfold dd_cnS; rw [if_neg c_2, if_pos c_4], ht⟩) (fun q h => by cases h) d_S_canMove_66
    · refine lv_lload_n hx hb d_S_canMove_27 rfl (lv_at hl 2 rfl) ?_
      refine lv_lconst (v := 0) hx hb d_S_canMove_28 (by decide) ?_
      refine dd_lc_ge (tgt := 44) hx hb d_S_canMove_29 d_S_canMove_30 (by decide) (fun c_5 => ?_) (fun c_5 => ?_)
      · refine lv_aload_n hx hb d_S_canMove_44 rfl (lv_at hl 0 rfl) ?_
        refine va_get (D := D) (ci := 2) (v := .ref (h 5)) (C := R_S) (T := F_S) (N := 5) hx hb htb i_S hown hK hP 0 rfl rfl 2 (by decide) (htb _ tb_55) (fun _ h9 => h9) rfl d_S_canMove_45 ?_
        refine lv_iload_n hx hb d_S_canMove_48 rfl (lv_at hl 1 rfl) ?_
        refine dd_lald (j := j) hx hb hK hP 3 0 rfl rfl rfl hj (by decide) d_S_canMove_49 ?_
        refine lv_lload_n hx hb d_S_canMove_50 rfl (lv_at hl 2 rfl) ?_
        refine lv_ladd hx hb d_S_canMove_51 ?_
        refine lv_ldc2 (v := 9000000000000000000) hx hb hown (htb _ tb_170) d_S_canMove_52 ?_
        refine vp_callSi (va_Run.run (va_runS (As := [.long ((ss.2.2.1 j) + v), .long 9000000000000000000]) (rest := []) ⟨hx, hb, hml, hown, htb⟩ (c_S_isWithin l ((ss.2.2.1 j) + v) 9000000000000000000) (va_cwS 2 htb (dd_gS tb_167 tb_168 tb_5 tb_169) rfl rfl rfl hd_S_isWithin.2 ⟨Nat.le_of_ble_eq_true rfl, Nat.le_of_ble_eq_true rfl⟩) ⟨dd_PS.bl, dd_PS.of⟩ rfl rfl hl.1 rfl (lv_room (Nat.le_of_ble_eq_true rfl)) d_S_canMove_55 ⟨Nat.le_of_ble_eq_true rfl, Nat.le_of_ble_eq_true rfl⟩)) (fun r_6 er_6 => ?_)
        subst er_6
        refine lv_if_eq (tgt := 65) hx hb d_S_canMove_58 (by decide) (fun c_7 => ?_) (fun c_7 => ?_)
        · refine lv_iconst (v := 0) hx hb d_S_canMove_65 (by decide) ?_
          exact W.zret (v := 0) hx hb hr (by decide) (fun t ht hW => ⟨0, rfl, by unfold dd_cnS; rw [if_neg c_2, if_neg c_4, if_pos c_5, if_pos c_7], ht⟩) (fun q h => by cases h) d_S_canMove_66
        · refine lv_iconst (v := 1) hx hb d_S_canMove_61 (by decide) ?_
          refine lv_goto (tgt := 66) hx hb d_S_canMove_62 (by decide) ?_
          exact W.zret (v := 1) hx hb hr (by decide) (fun t ht hW => ⟨1, rfl, by unfold dd_cnS; rw [if_neg c_2, if_neg c_4, if_pos c_5, if_neg c_7], ht⟩) (fun q h => by cases h) d_S_canMove_66
      · refine lv_aload_n hx hb d_S_canMove_33 rfl (lv_at hl 0 rfl) ?_
        refine va_get (D := D) (ci := 2) (v := .ref (h 4)) (C := R_S) (T := F_S) (N := 5) hx hb htb i_S hown hK hP 0 rfl rfl 1 (by decide) (htb _ tb_54) (fun _ h9 => h9) rfl d_S_canMove_34 ?_
        refine lv_iload_n hx hb d_S_canMove_37 rfl (lv_at hl 1 rfl) ?_
        refine dd_lald (j := j) hx hb hK hP 2 0 rfl rfl rfl hj (by decide) d_S_canMove_38 ?_
        refine lv_lload_n hx hb d_S_canMove_39 rfl (lv_at hl 2 rfl) ?_
        refine lv_lsub hx hb d_S_canMove_40 ?_
        refine lv_goto (tgt := 52) hx hb d_S_canMove_41 (by decide) ?_
        refine lv_ldc2 (v := 9000000000000000000) hx hb hown (htb _ tb_170) d_S_canMove_52 ?_
        refine vp_callSi (va_Run.run (va_runS (As := [.long ((ss.2.1 j) - v), .long 9000000000000000000]) (rest := []) ⟨hx, hb, hml, hown, htb⟩ (c_S_isWithin l ((ss.2.1 j) - v) 9000000000000000000) (va_cwS 2 htb (dd_gS tb_167 tb_168 tb_5 tb_169) rfl rfl rfl hd_S_isWithin.2 ⟨Nat.le_of_ble_eq_true rfl, Nat.le_of_ble_eq_true rfl⟩) ⟨dd_PS.bl, dd_PS.of⟩ rfl rfl hl.1 rfl (lv_room (Nat.le_of_ble_eq_true rfl)) d_S_canMove_55 ⟨Nat.le_of_ble_eq_true rfl, Nat.le_of_ble_eq_true rfl⟩)) (fun r_8 er_8 => ?_)
        subst er_8
        refine lv_if_eq (tgt := 65) hx hb d_S_canMove_58 (by decide) (fun c_9 => ?_) (fun c_9 => ?_)
        · refine lv_iconst (v := 0) hx hb d_S_canMove_65 (by decide) ?_
          exact W.zret (v := 0) hx hb hr (by decide) (fun t ht hW => ⟨0, rfl, by unfold dd_cnS; rw [if_neg c_2, if_neg c_4, if_neg c_5, if_pos c_9], ht⟩) (fun q h => by cases h) d_S_canMove_66
        · refine lv_iconst (v := 1) hx hb d_S_canMove_61 (by decide) ?_
          refine lv_goto (tgt := 66) hx hb d_S_canMove_62 (by decide) ?_
          exact W.zret (v := 1) hx hb hr (by decide) (fun t ht hW => ⟨1, rfl, by unfold dd_cnS; rw [if_neg c_2, if_neg c_4, if_neg c_5, if_neg c_9], ht⟩) (fun q h => by cases h) d_S_canMove_66
theorem dd_sw5 {x : Int32} (h0 : ¬ x = 0) (h1 : ¬ x = 1) (h2 : ¬ x = 2) (h3 : ¬ x = 3) (h4 : ¬ x = 4) : x.toInt < 0 ∨ 4 < x.toInt := by
  have e0 := lv_neT (a := 0) h0 (by decide)
  have e1 := lv_neT (a := 1) h1 (by decide)
  have e2 := lv_neT (a := 2) h2 (by decide)
  have e3 := lv_neT (a := 3) h3 (by decide)
  have e4 := lv_neT (a := 4) h4 (by decide)
  omega
set_option maxHeartbeats 4000000 in
set_option maxRecDepth 100000 in
theorem c_S_of (l : Launch) (D : va_G) (k : Nat → ClassId) (h : Nat → Nat) (ss : dd_SS) (j : Nat) (hj : j < 200) (what : Int32) : Met l y_S_of w_S_of ({ frames := 0, cells := 0, slots := 0, locals := 0 }) (dd_PR D k (dd_wS k h ss) [.ref (h 2), .int (nI j), .int what]) (vp_Sl (fun r => r = dd_ofS ss j what)) 0 0 (fun _ => False) := by
  refine Met.ofW (cc := b_S_of) (maxL := 3) (ret := (some FieldType.long)) (by decide) rfl ?_
  intro p e s m args below meth c s₁ B hml hv
  obtain ⟨rfl, hP, hK, hN⟩ := hv
  have hx := B.exec
  have hb := B.bytes
  have hr := B.returns
  have htb := dd_tb (atoms_spec (ws := w_S_of) B.pre)
  have hown : s.vm.findClass "DayDesk$Sums" = some m.cls := findClass_of_methodNamed B.named
  have hlocks := B.notSynchronized
  have hS : va_S (fun _ => False) s.heap s.heap [] := va_S.rf
  have hP : va_P D dd_cl [((h 2), .inr (2, [.ref (h 3), .ref (h 4), .ref (h 5), .ref (h 6), .ref (h 7)])), ((h 3), .inl (k 0, 200, .inr (.inl ss.1))), ((h 4), .inl (k 0, 200, .inr (.inl ss.2.1))), ((h 5), .inl (k 0, 200, .inr (.inl ss.2.2.1))), ((h 6), .inl (k 0, 200, .inr (.inl ss.2.2.2.1))), ((h 7), .inl (k 1, 200, .inl ss.2.2.2.2))] s.heap := hP
  have hl := lv_entry ([.ref (h 2), .int (nI j), .int what]) (n := 3) (Nat.le_of_ble_eq_true rfl)
  rw [lg_entry_eq]
  generalize (lg_sl ([.ref (h 2), .int (nI j), .int what]) ++ List.replicate (3 - (lg_sl ([.ref (h 2), .int (nI j), .int what])).length) Slot.unset).toArray = ls at hl ⊢
  have hl : lv_has ls 3 [(0, .ref (h 2)), (1, .int (nI j)), (2, .int what)] := hl
  refine lv_iload_n hx hb d_S_of_0 rfl (lv_at hl 2 rfl) ?_
  by_cases s_0 : what = 0
  · subst s_0
    refine lv_tableIn (tgt := 36) hx hb d_S_of_1 (by decide) (by decide) rfl (by decide) ?_
    refine lv_aload_n hx hb d_S_of_36 rfl (lv_at hl 0 rfl) ?_
    refine va_get (D := D) (ci := 2) (v := .ref (h 3)) (C := R_S) (T := F_S) (N := 5) hx hb htb i_S hown hK hP 0 rfl rfl 0 (by decide) (htb _ tb_53) (fun _ h9 => h9) rfl d_S_of_37 ?_
    refine lv_iload_n hx hb d_S_of_40 rfl (lv_at hl 1 rfl) ?_
    refine dd_lald (j := j) hx hb hK hP 1 0 rfl rfl rfl hj (by decide) d_S_of_41 ?_
    exact W.lret (v := (ss.1 j)) hx hb hr (fun t ht hW => ⟨(ss.1 j), rfl, by unfold dd_ofS; rw [if_pos rfl], ht⟩) (fun q h => by cases h) d_S_of_42
  by_cases s_1 : what = 1
  · subst s_1
    refine lv_tableIn (tgt := 43) hx hb d_S_of_1 (by decide) (by decide) rfl (by decide) ?_
    refine lv_aload_n hx hb d_S_of_43 rfl (lv_at hl 0 rfl) ?_
    refine va_get (D := D) (ci := 2) (v := .ref (h 4)) (C := R_S) (T := F_S) (N := 5) hx hb htb i_S hown hK hP 0 rfl rfl 1 (by decide) (htb _ tb_54) (fun _ h9 => h9) rfl d_S_of_44 ?_
    refine lv_iload_n hx hb d_S_of_47 rfl (lv_at hl 1 rfl) ?_
    refine dd_lald (j := j) hx hb hK hP 2 0 rfl rfl rfl hj (by decide) d_S_of_48 ?_
    exact W.lret (v := (ss.2.1 j)) hx hb hr (fun t ht hW => ⟨(ss.2.1 j), rfl, by unfold dd_ofS; rw [if_neg (by decide), if_pos rfl], ht⟩) (fun q h => by cases h) d_S_of_49
  by_cases s_2 : what = 2
  · subst s_2
    refine lv_tableIn (tgt := 50) hx hb d_S_of_1 (by decide) (by decide) rfl (by decide) ?_
    refine lv_aload_n hx hb d_S_of_50 rfl (lv_at hl 0 rfl) ?_
    refine va_get (D := D) (ci := 2) (v := .ref (h 5)) (C := R_S) (T := F_S) (N := 5) hx hb htb i_S hown hK hP 0 rfl rfl 2 (by decide) (htb _ tb_55) (fun _ h9 => h9) rfl d_S_of_51 ?_
    refine lv_iload_n hx hb d_S_of_54 rfl (lv_at hl 1 rfl) ?_
    refine dd_lald (j := j) hx hb hK hP 3 0 rfl rfl rfl hj (by decide) d_S_of_55 ?_
    exact W.lret (v := (ss.2.2.1 j)) hx hb hr (fun t ht hW => ⟨(ss.2.2.1 j), rfl, by unfold dd_ofS; rw [if_neg (by decide), if_neg (by decide), if_pos rfl], ht⟩) (fun q h => by cases h) d_S_of_56
  by_cases s_3 : what = 3
  · subst s_3
    refine lv_tableIn (tgt := 57) hx hb d_S_of_1 (by decide) (by decide) rfl (by decide) ?_
    refine lv_aload_n hx hb d_S_of_57 rfl (lv_at hl 0 rfl) ?_
    refine va_get (D := D) (ci := 2) (v := .ref (h 6)) (C := R_S) (T := F_S) (N := 5) hx hb htb i_S hown hK hP 0 rfl rfl 3 (by decide) (htb _ tb_56) (fun _ h9 => h9) rfl d_S_of_58 ?_
    refine lv_iload_n hx hb d_S_of_61 rfl (lv_at hl 1 rfl) ?_
    refine dd_lald (j := j) hx hb hK hP 4 0 rfl rfl rfl hj (by decide) d_S_of_62 ?_
    exact W.lret (v := (ss.2.2.2.1 j)) hx hb hr (fun t ht hW => ⟨(ss.2.2.2.1 j), rfl, by unfold dd_ofS; rw [if_neg (by decide), if_neg (by decide), if_neg (by decide), if_pos rfl], ht⟩) (fun q h => by cases h) d_S_of_63
  by_cases s_4 : what = 4
  · subst s_4
    refine lv_tableIn (tgt := 64) hx hb d_S_of_1 (by decide) (by decide) rfl (by decide) ?_
    refine lv_aload_n hx hb d_S_of_64 rfl (lv_at hl 0 rfl) ?_
    refine va_get (D := D) (ci := 2) (v := .ref (h 7)) (C := R_S) (T := F_S) (N := 5) hx hb htb i_S hown hK hP 0 rfl rfl 4 (by decide) (htb _ tb_57) (fun _ h9 => h9) rfl d_S_of_65 ?_
    refine lv_iload_n hx hb d_S_of_68 rfl (lv_at hl 1 rfl) ?_
    refine dd_iald (j := j) hx hb hK hP 5 1 rfl rfl rfl hj (by decide) d_S_of_69 ?_
    refine lv_i2l hx hb d_S_of_70 rfl ?_
    exact W.lret (v := ((ss.2.2.2.2 j).toInt64)) hx hb hr (fun t ht hW => ⟨((ss.2.2.2.2 j).toInt64), rfl, by unfold dd_ofS; rw [if_neg (by decide), if_neg (by decide), if_neg (by decide), if_neg (by decide), if_pos rfl], ht⟩) (fun q h => by cases h) d_S_of_71
  refine lv_tableOut (tgt := 72) hx hb d_S_of_1 (dd_sw5 s_0 s_1 s_2 s_3 s_4) (by decide) ?_
  refine lv_lconst (v := 0) hx hb d_S_of_72 (by decide) ?_
  exact W.lret (v := 0) hx hb hr (fun t ht hW => ⟨0, rfl, by unfold dd_ofS; rw [if_neg s_0, if_neg s_1, if_neg s_2, if_neg s_3, if_neg s_4], ht⟩) (fun q h => by cases h) d_S_of_73
set_option maxHeartbeats 4000000 in
set_option maxRecDepth 100000 in
theorem c_P_bars (l : Launch) (D : va_G) (k : Nat → ClassId) (ad : Nat → Nat) (h : Nat → Nat) (i : Nat) (hi : i < 5) (kind : Int32) : Met l y_P_bars w_P_bars ({ frames := 0, cells := 0, slots := 0, locals := 0 }) (dd_PE D k ad [] [.ref (ad i), .int kind]) (vp_Si (fun r => r = dd_brs (dd_bar i) kind)) 0 0 (fun _ => False) := by
  refine Met.ofW (cc := b_P_bars) (maxL := 2) (ret := (some FieldType.boolean)) (by decide) rfl ?_
  intro p e s m args below meth c s₁ B hml hv
  obtain ⟨rfl, hP, hK, hN, hE⟩ := hv
  have hx := B.exec
  have hb := B.bytes
  have hr := B.returns
  have htb := dd_tb (atoms_spec (ws := w_P_bars) B.pre)
  have hown : s.vm.findClass "DayDesk$Phase" = some m.cls := findClass_of_methodNamed B.named
  have hlocks := B.notSynchronized
  have hS : va_S (fun _ => False) s.heap s.heap [] := va_S.rf
  have hP : va_P D dd_cl [] s.heap := hP
  have hl := lv_entry ([.ref (ad i), .int kind]) (n := 2) (Nat.le_of_ble_eq_true rfl)
  rw [lg_entry_eq]
  generalize (lg_sl ([.ref (ad i), .int kind]) ++ List.replicate (2 - (lg_sl ([.ref (ad i), .int kind])).length) Slot.unset).toArray = ls at hl ⊢
  have hl : lv_has ls 2 [(0, .ref (ad i)), (1, .int kind)] := hl
  refine lv_aload_n hx hb d_P_bars_0 rfl (lv_at hl 0 rfl) ?_
  refine dd_getE (i := i) (q := ("DayDesk$Phase", "barred", "I", [8312, 0, 0, 0, 8696])) (v := (dd_bar i)) hx hb hE hi hS hown (by decide) (htb _ tb_311) (fun _ h9 => h9) rfl d_P_bars_1 ?_
  refine lv_iload_n hx hb d_P_bars_4 rfl (lv_at hl 1 rfl) ?_
  refine lv_ishr hx hb d_P_bars_5 ?_
  refine lv_iconst (v := 1) hx hb d_P_bars_6 (by decide) ?_
  refine lv_iand hx hb d_P_bars_7 ?_
  refine lv_iconst (v := 1) hx hb d_P_bars_8 (by decide) ?_
  refine lv_icmp_ne (tgt := 16) hx hb d_P_bars_9 (by decide) (fun c_1 => ?_) (fun c_1 => ?_)
  · refine lv_iconst (v := 0) hx hb d_P_bars_16 (by decide) ?_
    exact W.zret (v := 0) hx hb hr (by decide) (fun t ht hW => ⟨0, rfl, by unfold dd_brs; rw [if_pos c_1], ht⟩) (fun q h => by cases h) d_P_bars_17
  · refine lv_iconst (v := 1) hx hb d_P_bars_12 (by decide) ?_
    refine lv_goto (tgt := 17) hx hb d_P_bars_13 (by decide) ?_
    exact W.zret (v := 1) hx hb hr (by decide) (fun t ht hW => ⟨1, rfl, by unfold dd_brs; rw [if_neg (not_not_intro c_1)], ht⟩) (fun q h => by cases h) d_P_bars_17
end
section
/-! contracts: writes of the sums, the clock, a blank -/
theorem dd_bgs1 (ss : dd_SS) (i : Nat) : vp_updL (dd_bgS ss i).1 i ((dd_bgS ss i).2.2.2.1 i) = (dd_bgS ss (i + 1)).1 := dd_updL_if (g := ss.2.2.2.1)
theorem dd_bgs2 (ss : dd_SS) (i : Nat) : vp_updL (dd_bgS ss i).2.1 i 0 = (dd_bgS ss (i + 1)).2.1 := dd_updL_if (g := fun _ => 0)
theorem dd_bgs3 (ss : dd_SS) (i : Nat) : vp_updL (dd_bgS ss i).2.2.1 i 0 = (dd_bgS ss (i + 1)).2.2.1 := dd_updL_if (g := fun _ => 0)
theorem dd_bgs4 (ss : dd_SS) (i : Nat) : upd (dd_bgS ss i).2.2.2.2 i 0 = (dd_bgS ss (i + 1)).2.2.2.2 := dd_upd_if (g := fun _ => 0)
theorem dd_inc (i : Nat) : nI i + Int32.ofInt 1 = nI (i + 1) := nI_1 i
theorem dd_dec (i : Nat) : nI (i + 1) + Int32.ofInt (-1) = nI i := pk_m1 i
theorem dd_rsv01 (t : Int32) : dd_rsv t = 0 ∨ dd_rsv t = 1 := by
  unfold dd_rsv
  repeat' split
  all_goals simp
theorem dd_rsv1 {t : Int32} (h : ¬ dd_rsv t = 0) : 1 = dd_rsv t := by
  rcases dd_rsv01 t with e | e
  · exact absurd e h
  · exact e.symm
theorem dd_phN_lt (t : Int32) : dd_phN t < 5 := by
  unfold dd_phN
  repeat' split
  all_goals decide
theorem dd_num : ∀ i, i < 5 → ([0, 1, 2, 3, 4] : List Int32).getD i 0 = nI i := by decide
def dd_beg (i : Nat) : Int32 := [0, 100, 700, 800, 900].getD i 0
def dd_tP (tick : Int32) : Int32 := (if 5 ≤ nI (dd_phN tick) + 1 then 1000 else dd_beg (dd_phN tick + 1)) - tick
theorem dd_5le {i : Nat} (hi : i < 5) (h : ¬ (5 : Int32) ≤ nI i + 1) : i + 1 < 5 := by
  rcases (show i = 0 ∨ i = 1 ∨ i = 2 ∨ i = 3 ∨ i = 4 by omega) with rfl | rfl | rfl | rfl | rfl
  all_goals first | omega | exact absurd (by decide) h
/-- the first tick behind this one at which something is resolved -/
def dd_TR (tick : Int32) (n : Nat) : Prop := 1 ≤ n ∧ n ≤ 1000 ∧ (¬ dd_rsv ((tick + nI n) - (tick + nI n) / 1000 * 1000) = 0) ∧ ∀ i, 1 ≤ i → i < n → dd_rsv ((tick + nI i) - (tick + nI i) / 1000 * 1000) = 0
set_option maxHeartbeats 4000000 in
set_option maxRecDepth 100000 in
theorem c_S_move (l : Launch) (D : va_G) (k : Nat → ClassId) (h : Nat → Nat) (sz : Nat) (ss : dd_SS) (j : Nat) (hj : j < 200) (v : Int64) : Met l y_S_move w_S_move ({ frames := 0, cells := 0, slots := 0, locals := 0 }) (dd_PM D k sz (dd_wS k h ss) [.ref (h 2), .int (nI j), .long v]) (dd_Qv D (fun u : dd_SS => u = dd_mvS ss j v) (fun u => dd_wS k h u) (va_A (dd_wS k h ss) sz)) 0 0 (va_A (dd_wS k h ss) sz) := by
  refine Met.ofW (cc := b_S_move) (maxL := 4) (ret := none) (by decide) rfl ?_
  intro p e s m args below meth c s₁ B hml hv
  obtain ⟨rfl, hsz, hP, hD0, hK, hN⟩ := hv
  have hx := B.exec
  have hb := B.bytes
  have hr := B.returns
  have htb := dd_tb (atoms_spec (ws := w_S_move) B.pre)
  have hown : s.vm.findClass "DayDesk$Sums" = some m.cls := findClass_of_methodNamed B.named
  have hlocks := B.notSynchronized
  subst hsz
  have hD := hD0.self (sz := s.heap.size)
  generalize hAe : va_A (dd_wS k h ss) s.heap.size = A at hD ⊢
  have hA : ∀ q : Nat, s.heap.size ≤ q → A q := fun q h => by rw [← hAe]; exact Or.inr h
  have hS : va_S A s.heap s.heap [] := va_S.rf
  have hP : va_P D dd_cl [((h 2), .inr (2, [.ref (h 3), .ref (h 4), .ref (h 5), .ref (h 6), .ref (h 7)])), ((h 3), .inl (k 0, 200, .inr (.inl ss.1))), ((h 4), .inl (k 0, 200, .inr (.inl ss.2.1))), ((h 5), .inl (k 0, 200, .inr (.inl ss.2.2.1))), ((h 6), .inl (k 0, 200, .inr (.inl ss.2.2.2.1))), ((h 7), .inl (k 1, 200, .inl ss.2.2.2.2))] s.heap := hP
  have hD : va_D A [((h 2), .inr (2, [.ref (h 3), .ref (h 4), .ref (h 5), .ref (h 6), .ref (h 7)])), ((h 3), .inl (k 0, 200, .inr (.inl ss.1))), ((h 4), .inl (k 0, 200, .inr (.inl ss.2.1))), ((h 5), .inl (k 0, 200, .inr (.inl ss.2.2.1))), ((h 6), .inl (k 0, 200, .inr (.inl ss.2.2.2.1))), ((h 7), .inl (k 1, 200, .inl ss.2.2.2.2))] := hD
  have hl := lv_entry ([.ref (h 2), .int (nI j), .long v]) (n := 4) (Nat.le_of_ble_eq_true rfl)
  rw [lg_entry_eq]
  generalize (lg_sl ([.ref (h 2), .int (nI j), .long v]) ++ List.replicate (4 - (lg_sl ([.ref (h 2), .int (nI j), .long v])).length) Slot.unset).toArray = ls at hl ⊢
  have hl : lv_has ls 4 [(0, .ref (h 2)), (1, .int (nI j)), (2, .long v)] := hl
  refine lv_aload_n hx hb d_S_move_0 rfl (lv_at hl 0 rfl) ?_
  refine va_get (D := D) (ci := 2) (v := .ref (h 6)) (C := R_S) (T := F_S) (N := 5) hx hb htb i_S hown hK hP 0 rfl rfl 3 (by decide) (htb _ tb_56) (fun _ h9 => h9) rfl d_S_move_1 ?_
  refine lv_iload_n hx hb d_S_move_4 rfl (lv_at hl 1 rfl) ?_
  refine lv_dup2_11 hx hb d_S_move_5 rfl rfl ?_
  refine dd_lald (j := j) hx hb hK hP 4 0 rfl rfl rfl hj (by decide) d_S_move_6 ?_
  refine lv_lload_n hx hb d_S_move_7 rfl (lv_at hl 2 rfl) ?_
  refine lv_ladd hx hb d_S_move_8 ?_
  refine dd_last (j := j) hx hb hK hP hD hS 4 0 rfl rfl rfl hj (by decide) d_S_move_9 (fun H locs hP hD hS => ?_)
  have hP : va_P D dd_cl [((h 2), .inr (2, [.ref (h 3), .ref (h 4), .ref (h 5), .ref (h 6), .ref (h 7)])), ((h 3), .inl (k 0, 200, .inr (.inl ss.1))), ((h 4), .inl (k 0, 200, .inr (.inl ss.2.1))), ((h 5), .inl (k 0, 200, .inr (.inl ss.2.2.1))), ((h 6), .inl (k 0, 200, .inr (.inl (vp_updL ss.2.2.2.1 j ((ss.2.2.2.1 j) + v))))), ((h 7), .inl (k 1, 200, .inl ss.2.2.2.2))] H := hP
  have hD : va_D A [((h 2), .inr (2, [.ref (h 3), .ref (h 4), .ref (h 5), .ref (h 6), .ref (h 7)])), ((h 3), .inl (k 0, 200, .inr (.inl ss.1))), ((h 4), .inl (k 0, 200, .inr (.inl ss.2.1))), ((h 5), .inl (k 0, 200, .inr (.inl ss.2.2.1))), ((h 6), .inl (k 0, 200, .inr (.inl (vp_updL ss.2.2.2.1 j ((ss.2.2.2.1 j) + v))))), ((h 7), .inl (k 1, 200, .inl ss.2.2.2.2))] := hD
  refine lv_aload_n hx hb d_S_move_10 rfl (lv_at hl 0 rfl) ?_
  refine va_get (D := D) (ci := 2) (v := .ref (h 4)) (C := R_S) (T := F_S) (N := 5) hx hb htb i_S hown hK hP 0 rfl rfl 1 (by decide) (htb _ tb_54) (fun _ h9 => h9) rfl d_S_move_11 ?_
  refine lv_iload_n hx hb d_S_move_14 rfl (lv_at hl 1 rfl) ?_
  refine lv_dup2_11 hx hb d_S_move_15 rfl rfl ?_
  refine dd_lald (j := j) hx hb hK hP 2 0 rfl rfl rfl hj (by decide) d_S_move_16 ?_
  refine dd_jn (α := Int64) (P := fun z => z = (if 0 ≤ v then 0 else v)) (g := fun z => F0 m 28 ls [.long z, .long (ss.2.1 j), .int (nI j), .ref (h 4)]) (fun z (ez : z = (if 0 ≤ v then 0 else v)) => ?_) (fun jn28 => ?_)
  · subst ez
    refine W.eq (g2 := F0 m 28 ls [.long (if 0 ≤ v then 0 else v), .long (ss.2.1 j), .int (nI j), .ref (h 4)]) rfl ?_
    refine lv_lsub hx hb d_S_move_28 ?_
    refine dd_last (j := j) hx hb hK hP hD hS 2 0 rfl rfl rfl hj (by decide) d_S_move_29 (fun H locs hP hD hS => ?_)
    have hP : va_P D dd_cl [((h 2), .inr (2, [.ref (h 3), .ref (h 4), .ref (h 5), .ref (h 6), .ref (h 7)])), ((h 3), .inl (k 0, 200, .inr (.inl ss.1))), ((h 4), .inl (k 0, 200, .inr (.inl (vp_updL ss.2.1 j ((ss.2.1 j) - (if 0 ≤ v then 0 else v)))))), ((h 5), .inl (k 0, 200, .inr (.inl ss.2.2.1))), ((h 6), .inl (k 0, 200, .inr (.inl (vp_updL ss.2.2.2.1 j ((ss.2.2.2.1 j) + v))))), ((h 7), .inl (k 1, 200, .inl ss.2.2.2.2))] H := hP
    have hD : va_D A [((h 2), .inr (2, [.ref (h 3), .ref (h 4), .ref (h 5), .ref (h 6), .ref (h 7)])), ((h 3), .inl (k 0, 200, .inr (.inl ss.1))), ((h 4), .inl (k 0, 200, .inr (.inl (vp_updL ss.2.1 j ((ss.2.1 j) - (if 0 ≤ v then 0 else v)))))), ((h 5), .inl (k 0, 200, .inr (.inl ss.2.2.1))), ((h 6), .inl (k 0, 200, .inr (.inl (vp_updL ss.2.2.2.1 j ((ss.2.2.2.1 j) + v))))), ((h 7), .inl (k 1, 200, .inl ss.2.2.2.2))] := hD
    refine lv_aload_n hx hb d_S_move_30 rfl (lv_at hl 0 rfl) ?_
    refine va_get (D := D) (ci := 2) (v := .ref (h 5)) (C := R_S) (T := F_S) (N := 5) hx hb htb i_S hown hK hP 0 rfl rfl 2 (by decide) (htb _ tb_55) (fun _ h9 => h9) rfl d_S_move_31 ?_
    refine lv_iload_n hx hb d_S_move_34 rfl (lv_at hl 1 rfl) ?_
    refine lv_dup2_11 hx hb d_S_move_35 rfl rfl ?_
    refine dd_lald (j := j) hx hb hK hP 3 0 rfl rfl rfl hj (by decide) d_S_move_36 ?_
    refine dd_jn (α := Int64) (P := fun z => z = (if v ≤ 0 then 0 else v)) (g := fun z => F0 m 48 ls [.long z, .long (ss.2.2.1 j), .int (nI j), .ref (h 5)]) (fun z (ez : z = (if v ≤ 0 then 0 else v)) => ?_) (fun jn48 => ?_)
    · subst ez
      refine W.eq (g2 := F0 m 48 ls [.long (if v ≤ 0 then 0 else v), .long (ss.2.2.1 j), .int (nI j), .ref (h 5)]) rfl ?_
      refine lv_ladd hx hb d_S_move_48 ?_
      refine dd_last (j := j) hx hb hK hP hD hS 3 0 rfl rfl rfl hj (by decide) d_S_move_49 (fun H locs hP hD hS => ?_)
      have hP : va_P D dd_cl [((h 2), .inr (2, [.ref (h 3), .ref (h 4), .ref (h 5), .ref (h 6), .ref (h 7)])), ((h 3), .inl (k 0, 200, .inr (.inl ss.1))), ((h 4), .inl (k 0, 200, .inr (.inl (vp_updL ss.2.1 j ((ss.2.1 j) - (if 0 ≤ v then 0 else v)))))), ((h 5), .inl (k 0, 200, .inr (.inl (vp_updL ss.2.2.1 j ((ss.2.2.1 j) + (if v ≤ 0 then 0 else v)))))), ((h 6), .inl (k 0, 200, .inr (.inl (vp_updL ss.2.2.2.1 j ((ss.2.2.2.1 j) + v))))), ((h 7), .inl (k 1, 200, .inl ss.2.2.2.2))] H := hP
      have hD : va_D A [((h 2), .inr (2, [.ref (h 3), .ref (h 4), .ref (h 5), .ref (h 6), .ref (h 7)])), ((h 3), .inl (k 0, 200, .inr (.inl ss.1))), ((h 4), .inl (k 0, 200, .inr (.inl (vp_updL ss.2.1 j ((ss.2.1 j) - (if 0 ≤ v then 0 else v)))))), ((h 5), .inl (k 0, 200, .inr (.inl (vp_updL ss.2.2.1 j ((ss.2.2.1 j) + (if v ≤ 0 then 0 else v)))))), ((h 6), .inl (k 0, 200, .inr (.inl (vp_updL ss.2.2.2.1 j ((ss.2.2.2.1 j) + v))))), ((h 7), .inl (k 1, 200, .inl ss.2.2.2.2))] := hD
      refine lv_aload_n hx hb d_S_move_50 rfl (lv_at hl 0 rfl) ?_
      refine va_get (D := D) (ci := 2) (v := .ref (h 7)) (C := R_S) (T := F_S) (N := 5) hx hb htb i_S hown hK hP 0 rfl rfl 4 (by decide) (htb _ tb_57) (fun _ h9 => h9) rfl d_S_move_51 ?_
      refine lv_iload_n hx hb d_S_move_54 rfl (lv_at hl 1 rfl) ?_
      refine lv_dup2_11 hx hb d_S_move_55 rfl rfl ?_
      refine dd_iald (j := j) hx hb hK hP 5 1 rfl rfl rfl hj (by decide) d_S_move_56 ?_
      refine dd_jn (α := Int32) (P := fun z => z = (if v = 0 then 0 else 1)) (g := fun z => F0 m 68 ls [.int z, .int (ss.2.2.2.2 j), .int (nI j), .ref (h 7)]) (fun z (ez : z = (if v = 0 then 0 else 1)) => ?_) (fun jn68 => ?_)
      · subst ez
        refine W.eq (g2 := F0 m 68 ls [.int (if v = 0 then 0 else 1), .int (ss.2.2.2.2 j), .int (nI j), .ref (h 7)]) rfl ?_
        refine lv_iadd hx hb d_S_move_68 ?_
        refine dd_iast (j := j) hx hb hK hP hD hS 5 1 rfl rfl rfl hj (by decide) d_S_move_69 (fun H locs hP hD hS => ?_)
        have hP : va_P D dd_cl [((h 2), .inr (2, [.ref (h 3), .ref (h 4), .ref (h 5), .ref (h 6), .ref (h 7)])), ((h 3), .inl (k 0, 200, .inr (.inl ss.1))), ((h 4), .inl (k 0, 200, .inr (.inl (vp_updL ss.2.1 j ((ss.2.1 j) - (if 0 ≤ v then 0 else v)))))), ((h 5), .inl (k 0, 200, .inr (.inl (vp_updL ss.2.2.1 j ((ss.2.2.1 j) + (if v ≤ 0 then 0 else v)))))), ((h 6), .inl (k 0, 200, .inr (.inl (vp_updL ss.2.2.2.1 j ((ss.2.2.2.1 j) + v))))), ((h 7), .inl (k 1, 200, .inl (upd ss.2.2.2.2 j ((ss.2.2.2.2 j) + (if v = 0 then 0 else 1)))))] H := hP
        have hD : va_D A [((h 2), .inr (2, [.ref (h 3), .ref (h 4), .ref (h 5), .ref (h 6), .ref (h 7)])), ((h 3), .inl (k 0, 200, .inr (.inl ss.1))), ((h 4), .inl (k 0, 200, .inr (.inl (vp_updL ss.2.1 j ((ss.2.1 j) - (if 0 ≤ v then 0 else v)))))), ((h 5), .inl (k 0, 200, .inr (.inl (vp_updL ss.2.2.1 j ((ss.2.2.1 j) + (if v ≤ 0 then 0 else v)))))), ((h 6), .inl (k 0, 200, .inr (.inl (vp_updL ss.2.2.2.1 j ((ss.2.2.2.1 j) + v))))), ((h 7), .inl (k 1, 200, .inl (upd ss.2.2.2.2 j ((ss.2.2.2.2 j) + (if v = 0 then 0 else 1)))))] := hD
        exact W.vret hx hb hr (fun t ht hW => ⟨⟨dd_mvS ss j v, rfl, rfl, by rw [ht]; exact hP, hD⟩, hS.F ht⟩) hS.2.2 d_S_move_70
      refine lv_lload_n hx hb d_S_move_57 rfl (lv_at hl 2 rfl) ?_
      refine lv_lconst (v := 0) hx hb d_S_move_58 (by decide) ?_
      refine dd_lc_eq (tgt := 67) hx hb d_S_move_59 d_S_move_60 (by decide) (fun c_1 => ?_) (fun c_1 => ?_)
      · refine lv_iconst (v := 0) hx hb d_S_move_67 (by decide) ?_
        exact jn68 _ ((if_pos c_1).symm)
      · refine lv_iconst (v := 1) hx hb d_S_move_63 (by decide) ?_
        refine lv_goto (tgt := 68) hx hb d_S_move_64 (by decide) ?_
        exact jn68 _ ((if_neg c_1).symm)
    refine lv_lload_n hx hb d_S_move_37 rfl (lv_at hl 2 rfl) ?_
    refine lv_lconst (v := 0) hx hb d_S_move_38 (by decide) ?_
    refine dd_lc_le (tgt := 47) hx hb d_S_move_39 d_S_move_40 (by decide) (fun c_2 => ?_) (fun c_2 => ?_)
    · refine lv_lconst (v := 0) hx hb d_S_move_47 (by decide) ?_
      exact jn48 _ ((if_pos c_2).symm)
    · refine lv_lload_n hx hb d_S_move_43 rfl (lv_at hl 2 rfl) ?_
      refine lv_goto (tgt := 48) hx hb d_S_move_44 (by decide) ?_
      exact jn48 _ ((if_neg c_2).symm)
  refine lv_lload_n hx hb d_S_move_17 rfl (lv_at hl 2 rfl) ?_
  refine lv_lconst (v := 0) hx hb d_S_move_18 (by decide) ?_
  refine dd_lc_ge (tgt := 27) hx hb d_S_move_19 d_S_move_20 (by decide) (fun c_3 => ?_) (fun c_3 => ?_)
  · refine lv_lconst (v := 0) hx hb d_S_move_27 (by decide) ?_
    exact jn28 _ ((if_pos c_3).symm)
  · refine lv_lload_n hx hb d_S_move_23 rfl (lv_at hl 2 rfl) ?_
    refine lv_goto (tgt := 28) hx hb d_S_move_24 (by decide) ?_
    exact jn28 _ ((if_neg c_3).symm)
theorem dd_lt200 {i : Nat} (hi : i ≤ 200) (h : ¬ (200 : Int32) ≤ nI i) : i < 200 := by
  rcases Nat.lt_or_ge i 200 with q | q
  · exact q
  · exact absurd (nI_le (a := 200) (b := i) q (by omega)) h
theorem dd_ge200 {i : Nat} (hi : i ≤ 200) (h : (200 : Int32) ≤ nI i) : i = 200 := by
  rcases Nat.lt_or_ge i 200 with q | q
  · exact absurd h (nI_ge (a := i) (b := 200) q (by decide))
  · omega
set_option maxHeartbeats 4000000 in
set_option maxRecDepth 100000 in
theorem c_S_begin (l : Launch) (D : va_G) (k : Nat → ClassId) (h : Nat → Nat) (sz : Nat) (ss : dd_SS) : Met l y_S_begin w_S_begin ({ frames := 0, cells := 0, slots := 0, locals := 0 }) (dd_PM D k sz (dd_wS k h ss) [.ref (h 2)]) (dd_Qv D (fun u : dd_SS => u = dd_bgS ss 200) (fun u => dd_wS k h u) (va_A (dd_wS k h ss) sz)) 0 0 (va_A (dd_wS k h ss) sz) := by
  refine Met.ofW (cc := b_S_begin) (maxL := 2) (ret := none) (by decide) rfl ?_
  intro p e s m args below meth c s₁ B hml hv
  obtain ⟨rfl, hsz, hP, hD0, hK, hN⟩ := hv
  have hx := B.exec
  have hb := B.bytes
  have hr := B.returns
  have htb := dd_tb (atoms_spec (ws := w_S_begin) B.pre)
  have hown : s.vm.findClass "DayDesk$Sums" = some m.cls := findClass_of_methodNamed B.named
  have hlocks := B.notSynchronized
  subst hsz
  have hD := hD0.self (sz := s.heap.size)
  generalize hAe : va_A (dd_wS k h ss) s.heap.size = A at hD ⊢
  have hA : ∀ q : Nat, s.heap.size ≤ q → A q := fun q h => by rw [← hAe]; exact Or.inr h
  have hS : va_S A s.heap s.heap [] := va_S.rf
  have hP : va_P D dd_cl [((h 2), .inr (2, [.ref (h 3), .ref (h 4), .ref (h 5), .ref (h 6), .ref (h 7)])), ((h 3), .inl (k 0, 200, .inr (.inl ss.1))), ((h 4), .inl (k 0, 200, .inr (.inl ss.2.1))), ((h 5), .inl (k 0, 200, .inr (.inl ss.2.2.1))), ((h 6), .inl (k 0, 200, .inr (.inl ss.2.2.2.1))), ((h 7), .inl (k 1, 200, .inl ss.2.2.2.2))] s.heap := hP
  have hD : va_D A [((h 2), .inr (2, [.ref (h 3), .ref (h 4), .ref (h 5), .ref (h 6), .ref (h 7)])), ((h 3), .inl (k 0, 200, .inr (.inl ss.1))), ((h 4), .inl (k 0, 200, .inr (.inl ss.2.1))), ((h 5), .inl (k 0, 200, .inr (.inl ss.2.2.1))), ((h 6), .inl (k 0, 200, .inr (.inl ss.2.2.2.1))), ((h 7), .inl (k 1, 200, .inl ss.2.2.2.2))] := hD
  have hl := lv_entry ([.ref (h 2)]) (n := 2) (Nat.le_of_ble_eq_true rfl)
  rw [lg_entry_eq]
  generalize (lg_sl ([.ref (h 2)]) ++ List.replicate (2 - (lg_sl ([.ref (h 2)])).length) Slot.unset).toArray = ls at hl ⊢
  have hl : lv_has ls 2 [(0, .ref (h 2))] := hl
  refine lv_iconst (v := 0) hx hb d_S_begin_0 (by decide) ?_
  refine lv_istore_n (lv' := [(1, .int 0), (0, .ref (h 2))]) hx hb d_S_begin_1 rfl hl (by decide) rfl (fun ls hl => ?_)
  have hP : va_P D dd_cl (dd_wS k h (dd_bgS ss 0)) s.heap := by rw [dd_bg0]; exact hP
  have hD : va_D A (dd_wS k h (dd_bgS ss 0)) := by rw [dd_bg0]; exact hD
  refine dd_loop (α := Array Slot × Nat) (I := fun a H locs => (lv_has a.1 2 [(1, .int (nI a.2)), (0, .ref (h 2))]) ∧ (a.2 ≤ 200) ∧ (va_P D dd_cl [((h 2), .inr (2, [.ref (h 3), .ref (h 4), .ref (h 5), .ref (h 6), .ref (h 7)])), ((h 3), .inl (k 0, 200, .inr (.inl ((dd_bgS ss a.2).1)))), ((h 4), .inl (k 0, 200, .inr (.inl ((dd_bgS ss a.2).2.1)))), ((h 5), .inl (k 0, 200, .inr (.inl ((dd_bgS ss a.2).2.2.1)))), ((h 6), .inl (k 0, 200, .inr (.inl ((dd_bgS ss a.2).2.2.2.1)))), ((h 7), .inl (k 1, 200, .inl ((dd_bgS ss a.2).2.2.2.2)))] H) ∧ (va_D A [((h 2), .inr (2, [.ref (h 3), .ref (h 4), .ref (h 5), .ref (h 6), .ref (h 7)])), ((h 3), .inl (k 0, 200, .inr (.inl ((dd_bgS ss a.2).1)))), ((h 4), .inl (k 0, 200, .inr (.inl ((dd_bgS ss a.2).2.1)))), ((h 5), .inl (k 0, 200, .inr (.inl ((dd_bgS ss a.2).2.2.1)))), ((h 6), .inl (k 0, 200, .inr (.inl ((dd_bgS ss a.2).2.2.2.1)))), ((h 7), .inl (k 1, 200, .inl ((dd_bgS ss a.2).2.2.2.2)))]) ∧ (va_S A s.heap H locs)) (g := fun a => F0 m 2 a.1 []) (μ := fun a => 200 - a.2) (fun a H locs hI ih2 => ?_) (ls, 0) ⟨lv_sub hl [0, 1] rfl, Nat.zero_le 200, hP, hD, hS⟩
  obtain ⟨ls, i⟩ := a
  obtain ⟨hl, hi, hP, hD, hS⟩ := hI
  have hl : lv_has ls 2 [(1, .int (nI i)), (0, .ref (h 2))] := hl
  have hi : i ≤ 200 := hi
  have hP : va_P D dd_cl [((h 2), .inr (2, [.ref (h 3), .ref (h 4), .ref (h 5), .ref (h 6), .ref (h 7)])), ((h 3), .inl (k 0, 200, .inr (.inl ((dd_bgS ss i).1)))), ((h 4), .inl (k 0, 200, .inr (.inl ((dd_bgS ss i).2.1)))), ((h 5), .inl (k 0, 200, .inr (.inl ((dd_bgS ss i).2.2.1)))), ((h 6), .inl (k 0, 200, .inr (.inl ((dd_bgS ss i).2.2.2.1)))), ((h 7), .inl (k 1, 200, .inl ((dd_bgS ss i).2.2.2.2)))] H := hP
  have hD : va_D A [((h 2), .inr (2, [.ref (h 3), .ref (h 4), .ref (h 5), .ref (h 6), .ref (h 7)])), ((h 3), .inl (k 0, 200, .inr (.inl ((dd_bgS ss i).1)))), ((h 4), .inl (k 0, 200, .inr (.inl ((dd_bgS ss i).2.1)))), ((h 5), .inl (k 0, 200, .inr (.inl ((dd_bgS ss i).2.2.1)))), ((h 6), .inl (k 0, 200, .inr (.inl ((dd_bgS ss i).2.2.2.1)))), ((h 7), .inl (k 1, 200, .inl ((dd_bgS ss i).2.2.2.2)))] := hD
  have hS : va_S A s.heap H locs := hS
  refine W.eq (g2 := F0 m 2 ls []) rfl ?_
  refine lv_iload_n hx hb d_S_begin_2 rfl (lv_at hl 0 rfl) ?_
  refine lv_aload_n hx hb d_S_begin_3 rfl (lv_at hl 1 rfl) ?_
  refine va_get (D := D) (ci := 2) (v := .ref (h 6)) (C := R_S) (T := F_S) (N := 5) hx hb htb i_S hown hK hP 0 rfl rfl 3 (by decide) (htb _ tb_56) (fun _ h9 => h9) rfl d_S_begin_4 ?_
  refine va_alen (v := 200) hx hb hK hP 4 0 rfl rfl (show Int32.ofNat 200 = 200 by decide) d_S_begin_7 ?_
  refine lv_icmp_ge (tgt := 50) hx hb d_S_begin_8 (by decide) (fun c_1 => ?_) (fun c_1 => ?_)
  · obtain rfl : i = 200 := dd_ge200 hi c_1
    exact W.vret hx hb hr (fun t ht hW => ⟨⟨dd_bgS ss 200, rfl, rfl, by rw [ht]; exact hP, hD⟩, hS.F ht⟩) hS.2.2 d_S_begin_50
  · have hj : i < 200 := dd_lt200 hi c_1
    refine lv_aload_n hx hb d_S_begin_11 rfl (lv_at hl 1 rfl) ?_
    refine va_get (D := D) (ci := 2) (v := .ref (h 3)) (C := R_S) (T := F_S) (N := 5) hx hb htb i_S hown hK hP 0 rfl rfl 0 (by decide) (htb _ tb_53) (fun _ h9 => h9) rfl d_S_begin_12 ?_
    refine lv_iload_n hx hb d_S_begin_15 rfl (lv_at hl 0 rfl) ?_
    refine lv_aload_n hx hb d_S_begin_16 rfl (lv_at hl 1 rfl) ?_
    refine va_get (D := D) (ci := 2) (v := .ref (h 6)) (C := R_S) (T := F_S) (N := 5) hx hb htb i_S hown hK hP 0 rfl rfl 3 (by decide) (htb _ tb_56) (fun _ h9 => h9) rfl d_S_begin_17 ?_
    refine lv_iload_n hx hb d_S_begin_20 rfl (lv_at hl 0 rfl) ?_
    refine dd_lald (j := i) hx hb hK hP 4 0 rfl rfl rfl hj (by decide) d_S_begin_21 ?_
    refine dd_last (j := i) hx hb hK hP hD hS 1 0 rfl rfl rfl hj (by decide) d_S_begin_22 (fun H locs hP hD hS => ?_)
    have hP : va_P D dd_cl [((h 2), .inr (2, [.ref (h 3), .ref (h 4), .ref (h 5), .ref (h 6), .ref (h 7)])), ((h 3), .inl (k 0, 200, .inr (.inl (vp_updL (dd_bgS ss i).1 i ((dd_bgS ss i).2.2.2.1 i))))), ((h 4), .inl (k 0, 200, .inr (.inl ((dd_bgS ss i).2.1)))), ((h 5), .inl (k 0, 200, .inr (.inl ((dd_bgS ss i).2.2.1)))), ((h 6), .inl (k 0, 200, .inr (.inl ((dd_bgS ss i).2.2.2.1)))), ((h 7), .inl (k 1, 200, .inl ((dd_bgS ss i).2.2.2.2)))] H := hP
    have hD : va_D A [((h 2), .inr (2, [.ref (h 3), .ref (h 4), .ref (h 5), .ref (h 6), .ref (h 7)])), ((h 3), .inl (k 0, 200, .inr (.inl (vp_updL (dd_bgS ss i).1 i ((dd_bgS ss i).2.2.2.1 i))))), ((h 4), .inl (k 0, 200, .inr (.inl ((dd_bgS ss i).2.1)))), ((h 5), .inl (k 0, 200, .inr (.inl ((dd_bgS ss i).2.2.1)))), ((h 6), .inl (k 0, 200, .inr (.inl ((dd_bgS ss i).2.2.2.1)))), ((h 7), .inl (k 1, 200, .inl ((dd_bgS ss i).2.2.2.2)))] := hD
    refine lv_aload_n hx hb d_S_begin_23 rfl (lv_at hl 1 rfl) ?_
    refine va_get (D := D) (ci := 2) (v := .ref (h 4)) (C := R_S) (T := F_S) (N := 5) hx hb htb i_S hown hK hP 0 rfl rfl 1 (by decide) (htb _ tb_54) (fun _ h9 => h9) rfl d_S_begin_24 ?_
    refine lv_iload_n hx hb d_S_begin_27 rfl (lv_at hl 0 rfl) ?_
    refine lv_lconst (v := 0) hx hb d_S_begin_28 (by decide) ?_
    refine dd_last (j := i) hx hb hK hP hD hS 2 0 rfl rfl rfl hj (by decide) d_S_begin_29 (fun H locs hP hD hS => ?_)
    have hP : va_P D dd_cl [((h 2), .inr (2, [.ref (h 3), .ref (h 4), .ref (h 5), .ref (h 6), .ref (h 7)])), ((h 3), .inl (k 0, 200, .inr (.inl (vp_updL (dd_bgS ss i).1 i ((dd_bgS ss i).2.2.2.1 i))))), ((h 4), .inl (k 0, 200, .inr (.inl (vp_updL (dd_bgS ss i).2.1 i 0)))), ((h 5), .inl (k 0, 200, .inr (.inl ((dd_bgS ss i).2.2.1)))), ((h 6), .inl (k 0, 200, .inr (.inl ((dd_bgS ss i).2.2.2.1)))), ((h 7), .inl (k 1, 200, .inl ((dd_bgS ss i).2.2.2.2)))] H := hP
    have hD : va_D A [((h 2), .inr (2, [.ref (h 3), .ref (h 4), .ref (h 5), .ref (h 6), .ref (h 7)])), ((h 3), .inl (k 0, 200, .inr (.inl (vp_updL (dd_bgS ss i).1 i ((dd_bgS ss i).2.2.2.1 i))))), ((h 4), .inl (k 0, 200, .inr (.inl (vp_updL (dd_bgS ss i).2.1 i 0)))), ((h 5), .inl (k 0, 200, .inr (.inl ((dd_bgS ss i).2.2.1)))), ((h 6), .inl (k 0, 200, .inr (.inl ((dd_bgS ss i).2.2.2.1)))), ((h 7), .inl (k 1, 200, .inl ((dd_bgS ss i).2.2.2.2)))] := hD
    refine lv_aload_n hx hb d_S_begin_30 rfl (lv_at hl 1 rfl) ?_
    refine va_get (D := D) (ci := 2) (v := .ref (h 5)) (C := R_S) (T := F_S) (N := 5) hx hb htb i_S hown hK hP 0 rfl rfl 2 (by decide) (htb _ tb_55) (fun _ h9 => h9) rfl d_S_begin_31 ?_
    refine lv_iload_n hx hb d_S_begin_34 rfl (lv_at hl 0 rfl) ?_
    refine lv_lconst (v := 0) hx hb d_S_begin_35 (by decide) ?_
    refine dd_last (j := i) hx hb hK hP hD hS 3 0 rfl rfl rfl hj (by decide) d_S_begin_36 (fun H locs hP hD hS => ?_)
    have hP : va_P D dd_cl [((h 2), .inr (2, [.ref (h 3), .ref (h 4), .ref (h 5), .ref (h 6), .ref (h 7)])), ((h 3), .inl (k 0, 200, .inr (.inl (vp_updL (dd_bgS ss i).1 i ((dd_bgS ss i).2.2.2.1 i))))), ((h 4), .inl (k 0, 200, .inr (.inl (vp_updL (dd_bgS ss i).2.1 i 0)))), ((h 5), .inl (k 0, 200, .inr (.inl (vp_updL (dd_bgS ss i).2.2.1 i 0)))), ((h 6), .inl (k 0, 200, .inr (.inl ((dd_bgS ss i).2.2.2.1)))), ((h 7), .inl (k 1, 200, .inl ((dd_bgS ss i).2.2.2.2)))] H := hP
    have hD : va_D A [((h 2), .inr (2, [.ref (h 3), .ref (h 4), .ref (h 5), .ref (h 6), .ref (h 7)])), ((h 3), .inl (k 0, 200, .inr (.inl (vp_updL (dd_bgS ss i).1 i ((dd_bgS ss i).2.2.2.1 i))))), ((h 4), .inl (k 0, 200, .inr (.inl (vp_updL (dd_bgS ss i).2.1 i 0)))), ((h 5), .inl (k 0, 200, .inr (.inl (vp_updL (dd_bgS ss i).2.2.1 i 0)))), ((h 6), .inl (k 0, 200, .inr (.inl ((dd_bgS ss i).2.2.2.1)))), ((h 7), .inl (k 1, 200, .inl ((dd_bgS ss i).2.2.2.2)))] := hD
    refine lv_aload_n hx hb d_S_begin_37 rfl (lv_at hl 1 rfl) ?_
    refine va_get (D := D) (ci := 2) (v := .ref (h 7)) (C := R_S) (T := F_S) (N := 5) hx hb htb i_S hown hK hP 0 rfl rfl 4 (by decide) (htb _ tb_57) (fun _ h9 => h9) rfl d_S_begin_38 ?_
    refine lv_iload_n hx hb d_S_begin_41 rfl (lv_at hl 0 rfl) ?_
    refine lv_iconst (v := 0) hx hb d_S_begin_42 (by decide) ?_
    refine dd_iast (j := i) hx hb hK hP hD hS 5 1 rfl rfl rfl hj (by decide) d_S_begin_43 (fun H locs hP hD hS => ?_)
    have hP : va_P D dd_cl [((h 2), .inr (2, [.ref (h 3), .ref (h 4), .ref (h 5), .ref (h 6), .ref (h 7)])), ((h 3), .inl (k 0, 200, .inr (.inl (vp_updL (dd_bgS ss i).1 i ((dd_bgS ss i).2.2.2.1 i))))), ((h 4), .inl (k 0, 200, .inr (.inl (vp_updL (dd_bgS ss i).2.1 i 0)))), ((h 5), .inl (k 0, 200, .inr (.inl (vp_updL (dd_bgS ss i).2.2.1 i 0)))), ((h 6), .inl (k 0, 200, .inr (.inl ((dd_bgS ss i).2.2.2.1)))), ((h 7), .inl (k 1, 200, .inl (upd (dd_bgS ss i).2.2.2.2 i 0)))] H := hP
    have hD : va_D A [((h 2), .inr (2, [.ref (h 3), .ref (h 4), .ref (h 5), .ref (h 6), .ref (h 7)])), ((h 3), .inl (k 0, 200, .inr (.inl (vp_updL (dd_bgS ss i).1 i ((dd_bgS ss i).2.2.2.1 i))))), ((h 4), .inl (k 0, 200, .inr (.inl (vp_updL (dd_bgS ss i).2.1 i 0)))), ((h 5), .inl (k 0, 200, .inr (.inl (vp_updL (dd_bgS ss i).2.2.1 i 0)))), ((h 6), .inl (k 0, 200, .inr (.inl ((dd_bgS ss i).2.2.2.1)))), ((h 7), .inl (k 1, 200, .inl (upd (dd_bgS ss i).2.2.2.2 i 0)))] := hD
    refine lv_iinc (v := (nI (i + 1))) (lv' := [(1, .int (nI (i + 1))), (0, .ref (h 2))]) hx hb d_S_begin_44 hl (k := 0) rfl (dd_inc i) (by decide) rfl (fun ls hl => ?_)
    refine lv_goto (tgt := 2) hx hb d_S_begin_47 (by decide) ?_
    rw [dd_bgs1, dd_bgs2, dd_bgs3, dd_bgs4] at hP hD
    exact ih2 (ls, (i + 1)) _ _ ⟨lv_sub hl [0, 1] rfl, hj, hP, hD, hS⟩ (by dsimp only; omega)
set_option maxHeartbeats 4000000 in
set_option maxRecDepth 100000 in
theorem c_C_pass (l : Launch) (D : va_G) (k : Nat → ClassId) (h : Nat → Nat) (sz : Nat) (day tick : Int32) : Met l y_C_pass w_C_pass ({ frames := 1, cells := 0, slots := 0, locals := 20 }) (dd_PM D k sz (dd_wC h day tick) [.ref (h 1)]) (dd_Qi D (fun r (u : Int32 × Int32) => r = dd_pv (dd_nxt tick) ∧ u = (dd_nxd tick day, dd_nxt tick)) (fun u => dd_wC h u.1 u.2) (va_A (dd_wC h day tick) sz)) 0 0 (va_A (dd_wC h day tick) sz) := by
  refine Met.ofW (cc := b_C_pass) (maxL := 1) (ret := (some FieldType.int)) (by decide) rfl ?_
  intro p e s m args below meth c s₁ B hml hv
  obtain ⟨rfl, hsz, hP, hD0, hK, hN⟩ := hv
  have hx := B.exec
  have hb := B.bytes
  have hr := B.returns
  have htb := dd_tb (atoms_spec (ws := w_C_pass) B.pre)
  have hown : s.vm.findClass "DayDesk$DayClock" = some m.cls := findClass_of_methodNamed B.named
  have hlocks := B.notSynchronized
  subst hsz
  have hD := hD0.self (sz := s.heap.size)
  generalize hAe : va_A (dd_wC h day tick) s.heap.size = A at hD ⊢
  have hA : ∀ q : Nat, s.heap.size ≤ q → A q := fun q h => by rw [← hAe]; exact Or.inr h
  have hS : va_S A s.heap s.heap [] := va_S.rf
  have hP : va_P D dd_cl [((h 1), .inr (1, [.ref (h 11), .int day, .int tick]))] s.heap := hP
  have hD : va_D A [((h 1), .inr (1, [.ref (h 11), .int day, .int tick]))] := hD
  have hl := lv_entry ([.ref (h 1)]) (n := 1) (Nat.le_of_ble_eq_true rfl)
  rw [lg_entry_eq]
  generalize (lg_sl ([.ref (h 1)]) ++ List.replicate (1 - (lg_sl ([.ref (h 1)])).length) Slot.unset).toArray = ls at hl ⊢
  have hl : lv_has ls 1 [(0, .ref (h 1))] := hl
  refine lv_aload_n hx hb d_C_pass_0 rfl (lv_at hl 0 rfl) ?_
  refine lv_dup hx hb d_C_pass_1 rfl ?_
  refine va_get (D := D) (ci := 1) (v := .int tick) (C := R_C) (T := F_C) (N := 3) hx hb htb i_C hown hK hP 0 rfl rfl 2 (by decide) (htb _ tb_38) (fun _ h9 => h9) rfl d_C_pass_2 ?_
  refine lv_iconst (v := 1) hx hb d_C_pass_5 (by decide) ?_
  refine lv_iadd hx hb d_C_pass_6 ?_
  refine va_put (D := D) (ci := 1) (v := .int (tick + 1)) (ty := .int) (C := R_C) (T := F_C) (N := 3) hx hb htb i_C t_C t_C_ok n_C hown hK hP hD hS 0 rfl rfl 2 (by decide) (htb _ tb_38) (fun _ h9 => h9) rfl (by decide +kernel) rfl rfl (Nat.le_of_ble_eq_true rfl) d_C_pass_7 (fun H locs hP hD hS => ?_)
  have hP : va_P D dd_cl [((h 1), .inr (1, [.ref (h 11), .int day, .int (tick + 1)]))] H := hP
  have hD : va_D A [((h 1), .inr (1, [.ref (h 11), .int day, .int (tick + 1)]))] := hD
  refine lv_aload_n hx hb d_C_pass_10 rfl (lv_at hl 0 rfl) ?_
  refine va_get (D := D) (ci := 1) (v := .int (tick + 1)) (C := R_C) (T := F_C) (N := 3) hx hb htb i_C hown hK hP 0 rfl rfl 2 (by decide) (htb _ tb_38) (fun _ h9 => h9) rfl d_C_pass_11 ?_
  refine lv_sipush (v := 1000) hx hb d_C_pass_14 (by decide) ?_
  refine lv_icmp_ne (tgt := 35) hx hb d_C_pass_17 (by decide) (fun c_1 => ?_) (fun c_1 => ?_)
  · refine lv_aload_n hx hb d_C_pass_35 rfl (lv_at hl 0 rfl) ?_
    refine va_get (D := D) (ci := 1) (v := .int (tick + 1)) (C := R_C) (T := F_C) (N := 3) hx hb htb i_C hown hK hP 0 rfl rfl 2 (by decide) (htb _ tb_38) (fun _ h9 => h9) rfl d_C_pass_36 ?_
    refine vp_callSi (va_Run.run (va_runS (As := [.int (tick + 1)]) (rest := []) ⟨hx, hb, hml, hown, htb⟩ (c_C_isResolved l (tick + 1)) (va_cwS 1 htb (dd_gS tb_108 tb_109 tb_2 tb_110) rfl rfl rfl hd_C_isResolved.2 ⟨Nat.le_of_ble_eq_true rfl, Nat.le_of_ble_eq_true rfl⟩) ⟨dd_PS.bl, dd_PS.of⟩ rfl rfl hl.1 rfl (lv_room (Nat.le_of_ble_eq_true rfl)) d_C_pass_39 ⟨Nat.le_of_ble_eq_true rfl, Nat.le_of_ble_eq_true rfl⟩)) (fun r_2 er_2 => ?_)
    subst er_2
    refine dd_jn (α := Int32) (P := fun z => z = (dd_rsv (tick + 1))) (g := fun z => F0 m 50 ls [.int z]) (fun z (ez : z = (dd_rsv (tick + 1))) => ?_) (fun jn50 => ?_)
    · subst ez
      refine W.eq (g2 := F0 m 50 ls [.int (dd_rsv (tick + 1))]) rfl ?_
      refine dd_jn (α := Int32) (P := fun z => z = (if ((tick + 1) : Int32) = 900 then 2 else 0)) (g := fun z => F0 m 65 ls [.int z, .int (dd_rsv (tick + 1))]) (fun z (ez : z = (if ((tick + 1) : Int32) = 900 then 2 else 0)) => ?_) (fun jn65 => ?_)
      · subst ez
        refine W.eq (g2 := F0 m 65 ls [.int (if ((tick + 1) : Int32) = 900 then 2 else 0), .int (dd_rsv (tick + 1))]) rfl ?_
        refine lv_iadd hx hb d_C_pass_65 ?_
        refine dd_jn (α := Int32) (P := fun z => z = (if ((tick + 1) : Int32) = 0 then 4 else 0)) (g := fun z => F0 m 78 ls [.int z, .int ((dd_rsv (tick + 1)) + (if ((tick + 1) : Int32) = 900 then 2 else 0))]) (fun z (ez : z = (if ((tick + 1) : Int32) = 0 then 4 else 0)) => ?_) (fun jn78 => ?_)
        · subst ez
          refine W.eq (g2 := F0 m 78 ls [.int (if ((tick + 1) : Int32) = 0 then 4 else 0), .int ((dd_rsv (tick + 1)) + (if ((tick + 1) : Int32) = 900 then 2 else 0))]) rfl ?_
          refine lv_iadd hx hb d_C_pass_78 ?_
          have hP : va_P D dd_cl (dd_wC h (dd_nxd tick day) (dd_nxt tick)) H := by rw [dd_nxd, dd_nxt, if_neg c_1, if_neg c_1]; exact hP
          have hD : va_D A (dd_wC h (dd_nxd tick day) (dd_nxt tick)) := by rw [dd_nxd, dd_nxt, if_neg c_1, if_neg c_1]; exact hD
          exact W.iret (v := (((dd_rsv (tick + 1)) + (if ((tick + 1) : Int32) = 900 then 2 else 0)) + (if ((tick + 1) : Int32) = 0 then 4 else 0))) hx hb hr (fun t ht hW => ⟨⟨(((dd_rsv (tick + 1)) + (if ((tick + 1) : Int32) = 900 then 2 else 0)) + (if ((tick + 1) : Int32) = 0 then 4 else 0)), (dd_nxd tick day, dd_nxt tick), rfl, ⟨by rw [dd_nxt, if_neg c_1]; rfl, rfl⟩, by rw [ht]; exact hP, hD⟩, hS.F ht⟩) hS.2.2 d_C_pass_79
        refine lv_aload_n hx hb d_C_pass_66 rfl (lv_at hl 0 rfl) ?_
        refine va_get (D := D) (ci := 1) (v := .int (tick + 1)) (C := R_C) (T := F_C) (N := 3) hx hb htb i_C hown hK hP 0 rfl rfl 2 (by decide) (htb _ tb_38) (fun _ h9 => h9) rfl d_C_pass_67 ?_
        refine lv_if_ne (tgt := 77) hx hb d_C_pass_70 (by decide) (fun c_3 => ?_) (fun c_3 => ?_)
        · refine lv_iconst (v := 0) hx hb d_C_pass_77 (by decide) ?_
          exact jn78 _ ((if_neg c_3).symm)
        · refine lv_iconst (v := 4) hx hb d_C_pass_73 (by decide) ?_
          refine lv_goto (tgt := 78) hx hb d_C_pass_74 (by decide) ?_
          exact jn78 _ ((if_pos c_3).symm)
      refine lv_aload_n hx hb d_C_pass_50 rfl (lv_at hl 0 rfl) ?_
      refine va_get (D := D) (ci := 1) (v := .int (tick + 1)) (C := R_C) (T := F_C) (N := 3) hx hb htb i_C hown hK hP 0 rfl rfl 2 (by decide) (htb _ tb_38) (fun _ h9 => h9) rfl d_C_pass_51 ?_
      refine lv_sipush (v := 900) hx hb d_C_pass_54 (by decide) ?_
      refine lv_icmp_ne (tgt := 64) hx hb d_C_pass_57 (by decide) (fun c_4 => ?_) (fun c_4 => ?_)
      · refine lv_iconst (v := 0) hx hb d_C_pass_64 (by decide) ?_
        exact jn65 _ ((if_neg c_4).symm)
      · refine lv_iconst (v := 2) hx hb d_C_pass_60 (by decide) ?_
        refine lv_goto (tgt := 65) hx hb d_C_pass_61 (by decide) ?_
        exact jn65 _ ((if_pos c_4).symm)
    refine lv_if_eq (tgt := 49) hx hb d_C_pass_42 (by decide) (fun c_5 => ?_) (fun c_5 => ?_)
    · refine lv_iconst (v := 0) hx hb d_C_pass_49 (by decide) ?_
      exact jn50 _ c_5.symm
    · refine lv_iconst (v := 1) hx hb d_C_pass_45 (by decide) ?_
      refine lv_goto (tgt := 50) hx hb d_C_pass_46 (by decide) ?_
      exact jn50 _ (dd_rsv1 c_5)
  · refine lv_aload_n hx hb d_C_pass_20 rfl (lv_at hl 0 rfl) ?_
    refine lv_iconst (v := 0) hx hb d_C_pass_21 (by decide) ?_
    refine va_put (D := D) (ci := 1) (v := .int 0) (ty := .int) (C := R_C) (T := F_C) (N := 3) hx hb htb i_C t_C t_C_ok n_C hown hK hP hD hS 0 rfl rfl 2 (by decide) (htb _ tb_38) (fun _ h9 => h9) rfl (by decide +kernel) rfl rfl (Nat.le_of_ble_eq_true rfl) d_C_pass_22 (fun H locs hP hD hS => ?_)
    have hP : va_P D dd_cl [((h 1), .inr (1, [.ref (h 11), .int day, .int 0]))] H := hP
    have hD : va_D A [((h 1), .inr (1, [.ref (h 11), .int day, .int 0]))] := hD
    refine lv_aload_n hx hb d_C_pass_25 rfl (lv_at hl 0 rfl) ?_
    refine lv_dup hx hb d_C_pass_26 rfl ?_
    refine va_get (D := D) (ci := 1) (v := .int day) (C := R_C) (T := F_C) (N := 3) hx hb htb i_C hown hK hP 0 rfl rfl 1 (by decide) (htb _ tb_36) (fun _ h9 => h9) rfl d_C_pass_27 ?_
    refine lv_iconst (v := 1) hx hb d_C_pass_30 (by decide) ?_
    refine lv_iadd hx hb d_C_pass_31 ?_
    refine va_put (D := D) (ci := 1) (v := .int (day + 1)) (ty := .int) (C := R_C) (T := F_C) (N := 3) hx hb htb i_C t_C t_C_ok n_C hown hK hP hD hS 0 rfl rfl 1 (by decide) (htb _ tb_36) (fun _ h9 => h9) rfl (by decide +kernel) rfl rfl (Nat.le_of_ble_eq_true rfl) d_C_pass_32 (fun H locs hP hD hS => ?_)
    have hP : va_P D dd_cl [((h 1), .inr (1, [.ref (h 11), .int (day + 1), .int 0]))] H := hP
    have hD : va_D A [((h 1), .inr (1, [.ref (h 11), .int (day + 1), .int 0]))] := hD
    refine lv_aload_n hx hb d_C_pass_35 rfl (lv_at hl 0 rfl) ?_
    refine va_get (D := D) (ci := 1) (v := .int 0) (C := R_C) (T := F_C) (N := 3) hx hb htb i_C hown hK hP 0 rfl rfl 2 (by decide) (htb _ tb_38) (fun _ h9 => h9) rfl d_C_pass_36 ?_
    refine vp_callSi (va_Run.run (va_runS (As := [.int 0]) (rest := []) ⟨hx, hb, hml, hown, htb⟩ (c_C_isResolved l 0) (va_cwS 1 htb (dd_gS tb_108 tb_109 tb_2 tb_110) rfl rfl rfl hd_C_isResolved.2 ⟨Nat.le_of_ble_eq_true rfl, Nat.le_of_ble_eq_true rfl⟩) ⟨dd_PS.bl, dd_PS.of⟩ rfl rfl hl.1 rfl (lv_room (Nat.le_of_ble_eq_true rfl)) d_C_pass_39 ⟨Nat.le_of_ble_eq_true rfl, Nat.le_of_ble_eq_true rfl⟩)) (fun r_6 er_6 => ?_)
    subst er_6
    refine dd_jn (α := Int32) (P := fun z => z = (dd_rsv 0)) (g := fun z => F0 m 50 ls [.int z]) (fun z (ez : z = (dd_rsv 0)) => ?_) (fun jn50 => ?_)
    · subst ez
      refine W.eq (g2 := F0 m 50 ls [.int (dd_rsv 0)]) rfl ?_
      refine dd_jn (α := Int32) (P := fun z => z = (if (0 : Int32) = 900 then 2 else 0)) (g := fun z => F0 m 65 ls [.int z, .int (dd_rsv 0)]) (fun z (ez : z = (if (0 : Int32) = 900 then 2 else 0)) => ?_) (fun jn65 => ?_)
      · subst ez
        refine W.eq (g2 := F0 m 65 ls [.int (if (0 : Int32) = 900 then 2 else 0), .int (dd_rsv 0)]) rfl ?_
        refine lv_iadd hx hb d_C_pass_65 ?_
        refine dd_jn (α := Int32) (P := fun z => z = (if (0 : Int32) = 0 then 4 else 0)) (g := fun z => F0 m 78 ls [.int z, .int ((dd_rsv 0) + (if (0 : Int32) = 900 then 2 else 0))]) (fun z (ez : z = (if (0 : Int32) = 0 then 4 else 0)) => ?_) (fun jn78 => ?_)
        · subst ez
          refine W.eq (g2 := F0 m 78 ls [.int (if (0 : Int32) = 0 then 4 else 0), .int ((dd_rsv 0) + (if (0 : Int32) = 900 then 2 else 0))]) rfl ?_
          refine lv_iadd hx hb d_C_pass_78 ?_
          have hP : va_P D dd_cl (dd_wC h (dd_nxd tick day) (dd_nxt tick)) H := by rw [dd_nxd, dd_nxt, if_pos c_1, if_pos c_1]; exact hP
          have hD : va_D A (dd_wC h (dd_nxd tick day) (dd_nxt tick)) := by rw [dd_nxd, dd_nxt, if_pos c_1, if_pos c_1]; exact hD
          exact W.iret (v := (((dd_rsv 0) + (if (0 : Int32) = 900 then 2 else 0)) + (if (0 : Int32) = 0 then 4 else 0))) hx hb hr (fun t ht hW => ⟨⟨(((dd_rsv 0) + (if (0 : Int32) = 900 then 2 else 0)) + (if (0 : Int32) = 0 then 4 else 0)), (dd_nxd tick day, dd_nxt tick), rfl, ⟨by rw [dd_nxt, if_pos c_1]; rfl, rfl⟩, by rw [ht]; exact hP, hD⟩, hS.F ht⟩) hS.2.2 d_C_pass_79
        refine lv_aload_n hx hb d_C_pass_66 rfl (lv_at hl 0 rfl) ?_
        refine va_get (D := D) (ci := 1) (v := .int 0) (C := R_C) (T := F_C) (N := 3) hx hb htb i_C hown hK hP 0 rfl rfl 2 (by decide) (htb _ tb_38) (fun _ h9 => h9) rfl d_C_pass_67 ?_
        refine lv_if_ne (tgt := 77) hx hb d_C_pass_70 (by decide) (fun c_7 => ?_) (fun c_7 => ?_)
        · refine lv_iconst (v := 0) hx hb d_C_pass_77 (by decide) ?_
          exact jn78 _ ((if_neg c_7).symm)
        · refine lv_iconst (v := 4) hx hb d_C_pass_73 (by decide) ?_
          refine lv_goto (tgt := 78) hx hb d_C_pass_74 (by decide) ?_
          exact jn78 _ ((if_pos c_7).symm)
      refine lv_aload_n hx hb d_C_pass_50 rfl (lv_at hl 0 rfl) ?_
      refine va_get (D := D) (ci := 1) (v := .int 0) (C := R_C) (T := F_C) (N := 3) hx hb htb i_C hown hK hP 0 rfl rfl 2 (by decide) (htb _ tb_38) (fun _ h9 => h9) rfl d_C_pass_51 ?_
      refine lv_sipush (v := 900) hx hb d_C_pass_54 (by decide) ?_
      refine lv_icmp_ne (tgt := 64) hx hb d_C_pass_57 (by decide) (fun c_8 => ?_) (fun c_8 => ?_)
      · refine lv_iconst (v := 0) hx hb d_C_pass_64 (by decide) ?_
        exact jn65 _ ((if_neg c_8).symm)
      · refine lv_iconst (v := 2) hx hb d_C_pass_60 (by decide) ?_
        refine lv_goto (tgt := 65) hx hb d_C_pass_61 (by decide) ?_
        exact jn65 _ ((if_pos c_8).symm)
    refine lv_if_eq (tgt := 49) hx hb d_C_pass_42 (by decide) (fun c_9 => ?_) (fun c_9 => ?_)
    · refine lv_iconst (v := 0) hx hb d_C_pass_49 (by decide) ?_
      exact jn50 _ c_9.symm
    · refine lv_iconst (v := 1) hx hb d_C_pass_45 (by decide) ?_
      refine lv_goto (tgt := 50) hx hb d_C_pass_46 (by decide) ?_
      exact jn50 _ (dd_rsv1 c_9)
set_option maxHeartbeats 4000000 in
set_option maxRecDepth 100000 in
theorem c_C_phase (l : Launch) (D : va_G) (k : Nat → ClassId) (ad : Nat → Nat) (h : Nat → Nat) (day tick : Int32) (h0 : 0 ≤ tick) : Met l y_C_phase w_C_phase ({ frames := 0, cells := 0, slots := 0, locals := 0 }) (dd_PE D k ad (dd_wCP k ad h day tick) [.ref (h 1)]) (va_Sr (fun i => i = dd_phN tick) (fun i => .ref (ad i))) 0 0 (fun _ => False) := by
  refine Met.ofW (cc := b_C_phase) (maxL := 2) (ret := (some (FieldType.object "DayDesk$Phase"))) (by decide) rfl ?_
  intro p e s m args below meth c s₁ B hml hv
  obtain ⟨rfl, hP, hK, hN, hE⟩ := hv
  have hx := B.exec
  have hb := B.bytes
  have hr := B.returns
  have htb := dd_tb (atoms_spec (ws := w_C_phase) B.pre)
  have hown : s.vm.findClass "DayDesk$DayClock" = some m.cls := findClass_of_methodNamed B.named
  have hlocks := B.notSynchronized
  have hS : va_S (fun _ => False) s.heap s.heap [] := va_S.rf
  have hP : va_P D dd_cl [((h 1), .inr (1, [.ref (h 11), .int day, .int tick])), ((h 11), .inl (k 3, 5, .inr (.inr (.inr (.inr (fun i => some (ad i)))))))] s.heap := hP
  have hl := lv_entry ([.ref (h 1)]) (n := 2) (Nat.le_of_ble_eq_true rfl)
  rw [lg_entry_eq]
  generalize (lg_sl ([.ref (h 1)]) ++ List.replicate (2 - (lg_sl ([.ref (h 1)])).length) Slot.unset).toArray = ls at hl ⊢
  have hl : lv_has ls 2 [(0, .ref (h 1))] := hl
  refine lv_aload_n hx hb d_C_phase_0 rfl (lv_at hl 0 rfl) ?_
  refine va_get (D := D) (ci := 1) (v := .ref (h 11)) (C := R_C) (T := F_C) (N := 3) hx hb htb i_C hown hK hP 0 rfl rfl 0 (by decide) (htb _ tb_35) (fun _ h9 => h9) rfl d_C_phase_1 ?_
  refine va_alen (v := 5) hx hb hK hP 1 3 rfl rfl (show Int32.ofNat 5 = 5 by decide) d_C_phase_4 ?_
  refine lv_iconst (v := 1) hx hb d_C_phase_5 (by decide) ?_
  refine lv_isub hx hb d_C_phase_6 ?_
  refine lv_topi (fun y_1 ey_1 => ?_)
  obtain rfl : y_1 = (nI 4) := ey_1.trans (by decide)
  refine lv_istore_n (lv' := [(1, .int (nI 4)), (0, .ref (h 1))]) hx hb d_C_phase_7 rfl hl (by decide) rfl (fun ls hl => ?_)
  refine lv_aload_n hx hb d_C_phase_8 rfl (lv_at hl 1 rfl) ?_
  refine va_get (D := D) (ci := 1) (v := .ref (h 11)) (C := R_C) (T := F_C) (N := 3) hx hb htb i_C hown hK hP 0 rfl rfl 0 (by decide) (htb _ tb_35) (fun _ h9 => h9) rfl d_C_phase_9 ?_
  refine lv_iload_n hx hb d_C_phase_12 rfl (lv_at hl 0 rfl) ?_
  refine dd_aald (j := 4) hx hb hK hP 1 3 rfl rfl rfl (by decide) (by decide) rfl d_C_phase_13 ?_
  refine dd_getEN (i := 4) (q := ("DayDesk$Phase", "begin", "I", [0, 100, 700, 800, 900])) (v := 900) hx hb hE (by decide) hS hown (by decide) (va_Nw.use rfl hN.2.2.2.2.1) (fun _ h9 => h9) rfl d_C_phase_14 ?_
  refine lv_aload_n hx hb d_C_phase_17 rfl (lv_at hl 1 rfl) ?_
  refine va_get (D := D) (ci := 1) (v := .int tick) (C := R_C) (T := F_C) (N := 3) hx hb htb i_C hown hK hP 0 rfl rfl 2 (by decide) (htb _ tb_38) (fun _ h9 => h9) rfl d_C_phase_18 ?_
  refine lv_icmp_le (tgt := 30) hx hb d_C_phase_21 (by decide) (fun c_2 => ?_) (fun c_2 => ?_)
  · refine lv_aload_n hx hb d_C_phase_30 rfl (lv_at hl 1 rfl) ?_
    refine va_get (D := D) (ci := 1) (v := .ref (h 11)) (C := R_C) (T := F_C) (N := 3) hx hb htb i_C hown hK hP 0 rfl rfl 0 (by decide) (htb _ tb_35) (fun _ h9 => h9) rfl d_C_phase_31 ?_
    refine lv_iload_n hx hb d_C_phase_34 rfl (lv_at hl 0 rfl) ?_
    refine dd_aald (j := 4) hx hb hK hP 1 3 rfl rfl rfl (by decide) (by decide) rfl d_C_phase_35 ?_
    exact W.aret hx hb hr (Or.inl ⟨_, rfl⟩) (Or.inr ⟨_, rfl⟩) (fun t ht hW => ⟨4, rfl, by show _ = _; unfold dd_phN; rw [if_pos c_2], ht⟩) (fun q h => by cases h) d_C_phase_36
  · refine lv_iinc (v := (nI 3)) (lv' := [(1, .int (nI 3)), (0, .ref (h 1))]) hx hb d_C_phase_24 hl (k := 0) rfl (by decide) (by decide) rfl (fun ls hl => ?_)
    refine lv_goto (tgt := 8) hx hb d_C_phase_27 (by decide) ?_
    refine lv_aload_n hx hb d_C_phase_8 rfl (lv_at hl 1 rfl) ?_
    refine va_get (D := D) (ci := 1) (v := .ref (h 11)) (C := R_C) (T := F_C) (N := 3) hx hb htb i_C hown hK hP 0 rfl rfl 0 (by decide) (htb _ tb_35) (fun _ h9 => h9) rfl d_C_phase_9 ?_
    refine lv_iload_n hx hb d_C_phase_12 rfl (lv_at hl 0 rfl) ?_
    refine dd_aald (j := 3) hx hb hK hP 1 3 rfl rfl rfl (by decide) (by decide) rfl d_C_phase_13 ?_
    refine dd_getEN (i := 3) (q := ("DayDesk$Phase", "begin", "I", [0, 100, 700, 800, 900])) (v := 800) hx hb hE (by decide) hS hown (by decide) (va_Nw.use rfl hN.2.2.2.2.1) (fun _ h9 => h9) rfl d_C_phase_14 ?_
    refine lv_aload_n hx hb d_C_phase_17 rfl (lv_at hl 1 rfl) ?_
    refine va_get (D := D) (ci := 1) (v := .int tick) (C := R_C) (T := F_C) (N := 3) hx hb htb i_C hown hK hP 0 rfl rfl 2 (by decide) (htb _ tb_38) (fun _ h9 => h9) rfl d_C_phase_18 ?_
    refine lv_icmp_le (tgt := 30) hx hb d_C_phase_21 (by decide) (fun c_3 => ?_) (fun c_3 => ?_)
    · refine lv_aload_n hx hb d_C_phase_30 rfl (lv_at hl 1 rfl) ?_
      refine va_get (D := D) (ci := 1) (v := .ref (h 11)) (C := R_C) (T := F_C) (N := 3) hx hb htb i_C hown hK hP 0 rfl rfl 0 (by decide) (htb _ tb_35) (fun _ h9 => h9) rfl d_C_phase_31 ?_
      refine lv_iload_n hx hb d_C_phase_34 rfl (lv_at hl 0 rfl) ?_
      refine dd_aald (j := 3) hx hb hK hP 1 3 rfl rfl rfl (by decide) (by decide) rfl d_C_phase_35 ?_
      exact W.aret hx hb hr (Or.inl ⟨_, rfl⟩) (Or.inr ⟨_, rfl⟩) (fun t ht hW => ⟨3, rfl, by show _ = _; unfold dd_phN; rw [if_neg c_2, if_pos c_3], ht⟩) (fun q h => by cases h) d_C_phase_36
    · refine lv_iinc (v := (nI 2)) (lv' := [(1, .int (nI 2)), (0, .ref (h 1))]) hx hb d_C_phase_24 hl (k := 0) rfl (by decide) (by decide) rfl (fun ls hl => ?_)
      refine lv_goto (tgt := 8) hx hb d_C_phase_27 (by decide) ?_
      refine lv_aload_n hx hb d_C_phase_8 rfl (lv_at hl 1 rfl) ?_
      refine va_get (D := D) (ci := 1) (v := .ref (h 11)) (C := R_C) (T := F_C) (N := 3) hx hb htb i_C hown hK hP 0 rfl rfl 0 (by decide) (htb _ tb_35) (fun _ h9 => h9) rfl d_C_phase_9 ?_
      refine lv_iload_n hx hb d_C_phase_12 rfl (lv_at hl 0 rfl) ?_
      refine dd_aald (j := 2) hx hb hK hP 1 3 rfl rfl rfl (by decide) (by decide) rfl d_C_phase_13 ?_
      refine dd_getEN (i := 2) (q := ("DayDesk$Phase", "begin", "I", [0, 100, 700, 800, 900])) (v := 700) hx hb hE (by decide) hS hown (by decide) (va_Nw.use rfl hN.2.2.2.2.1) (fun _ h9 => h9) rfl d_C_phase_14 ?_
      refine lv_aload_n hx hb d_C_phase_17 rfl (lv_at hl 1 rfl) ?_
      refine va_get (D := D) (ci := 1) (v := .int tick) (C := R_C) (T := F_C) (N := 3) hx hb htb i_C hown hK hP 0 rfl rfl 2 (by decide) (htb _ tb_38) (fun _ h9 => h9) rfl d_C_phase_18 ?_
      refine lv_icmp_le (tgt := 30) hx hb d_C_phase_21 (by decide) (fun c_4 => ?_) (fun c_4 => ?_)
      · refine lv_aload_n hx hb d_C_phase_30 rfl (lv_at hl 1 rfl) ?_
        refine va_get (D := D) (ci := 1) (v := .ref (h 11)) (C := R_C) (T := F_C) (N := 3) hx hb htb i_C hown hK hP 0 rfl rfl 0 (by decide) (htb _ tb_35) (fun _ h9 => h9) rfl d_C_phase_31 ?_
        refine lv_iload_n hx hb d_C_phase_34 rfl (lv_at hl 0 rfl) ?_
        refine dd_aald (j := 2) hx hb hK hP 1 3 rfl rfl rfl (by decide) (by decide) rfl d_C_phase_35 ?_
        exact W.aret hx hb hr (Or.inl ⟨_, rfl⟩) (Or.inr ⟨_, rfl⟩) (fun t ht hW => ⟨2, rfl, by show _ = _; unfold dd_phN; rw [if_neg c_2, if_neg c_3, if_pos c_4], ht⟩) (fun q h => by cases h) d_C_phase_36
      · refine lv_iinc (v := (nI 1)) (lv' := [(1, .int (nI 1)), (0, .ref (h 1))]) hx hb d_C_phase_24 hl (k := 0) rfl (by decide) (by decide) rfl (fun ls hl => ?_)
        refine lv_goto (tgt := 8) hx hb d_C_phase_27 (by decide) ?_
        refine lv_aload_n hx hb d_C_phase_8 rfl (lv_at hl 1 rfl) ?_
        refine va_get (D := D) (ci := 1) (v := .ref (h 11)) (C := R_C) (T := F_C) (N := 3) hx hb htb i_C hown hK hP 0 rfl rfl 0 (by decide) (htb _ tb_35) (fun _ h9 => h9) rfl d_C_phase_9 ?_
        refine lv_iload_n hx hb d_C_phase_12 rfl (lv_at hl 0 rfl) ?_
        refine dd_aald (j := 1) hx hb hK hP 1 3 rfl rfl rfl (by decide) (by decide) rfl d_C_phase_13 ?_
        refine dd_getEN (i := 1) (q := ("DayDesk$Phase", "begin", "I", [0, 100, 700, 800, 900])) (v := 100) hx hb hE (by decide) hS hown (by decide) (va_Nw.use rfl hN.2.2.2.2.1) (fun _ h9 => h9) rfl d_C_phase_14 ?_
        refine lv_aload_n hx hb d_C_phase_17 rfl (lv_at hl 1 rfl) ?_
        refine va_get (D := D) (ci := 1) (v := .int tick) (C := R_C) (T := F_C) (N := 3) hx hb htb i_C hown hK hP 0 rfl rfl 2 (by decide) (htb _ tb_38) (fun _ h9 => h9) rfl d_C_phase_18 ?_
        refine lv_icmp_le (tgt := 30) hx hb d_C_phase_21 (by decide) (fun c_5 => ?_) (fun c_5 => ?_)
        · refine lv_aload_n hx hb d_C_phase_30 rfl (lv_at hl 1 rfl) ?_
          refine va_get (D := D) (ci := 1) (v := .ref (h 11)) (C := R_C) (T := F_C) (N := 3) hx hb htb i_C hown hK hP 0 rfl rfl 0 (by decide) (htb _ tb_35) (fun _ h9 => h9) rfl d_C_phase_31 ?_
          refine lv_iload_n hx hb d_C_phase_34 rfl (lv_at hl 0 rfl) ?_
          refine dd_aald (j := 1) hx hb hK hP 1 3 rfl rfl rfl (by decide) (by decide) rfl d_C_phase_35 ?_
          exact W.aret hx hb hr (Or.inl ⟨_, rfl⟩) (Or.inr ⟨_, rfl⟩) (fun t ht hW => ⟨1, rfl, by show _ = _; unfold dd_phN; rw [if_neg c_2, if_neg c_3, if_neg c_4, if_pos c_5], ht⟩) (fun q h => by cases h) d_C_phase_36
        · refine lv_iinc (v := (nI 0)) (lv' := [(1, .int (nI 0)), (0, .ref (h 1))]) hx hb d_C_phase_24 hl (k := 0) rfl (by decide) (by decide) rfl (fun ls hl => ?_)
          refine lv_goto (tgt := 8) hx hb d_C_phase_27 (by decide) ?_
          refine lv_aload_n hx hb d_C_phase_8 rfl (lv_at hl 1 rfl) ?_
          refine va_get (D := D) (ci := 1) (v := .ref (h 11)) (C := R_C) (T := F_C) (N := 3) hx hb htb i_C hown hK hP 0 rfl rfl 0 (by decide) (htb _ tb_35) (fun _ h9 => h9) rfl d_C_phase_9 ?_
          refine lv_iload_n hx hb d_C_phase_12 rfl (lv_at hl 0 rfl) ?_
          refine dd_aald (j := 0) hx hb hK hP 1 3 rfl rfl rfl (by decide) (by decide) rfl d_C_phase_13 ?_
          refine dd_getEN (i := 0) (q := ("DayDesk$Phase", "begin", "I", [0, 100, 700, 800, 900])) (v := 0) hx hb hE (by decide) hS hown (by decide) (va_Nw.use rfl hN.2.2.2.2.1) (fun _ h9 => h9) rfl d_C_phase_14 ?_
          refine lv_aload_n hx hb d_C_phase_17 rfl (lv_at hl 1 rfl) ?_
          refine va_get (D := D) (ci := 1) (v := .int tick) (C := R_C) (T := F_C) (N := 3) hx hb htb i_C hown hK hP 0 rfl rfl 2 (by decide) (htb _ tb_38) (fun _ h9 => h9) rfl d_C_phase_18 ?_
          refine lv_icmp_le (tgt := 30) hx hb d_C_phase_21 (by decide) (fun c_6 => ?_) (fun c_6 => ?_)
          · refine lv_aload_n hx hb d_C_phase_30 rfl (lv_at hl 1 rfl) ?_
            refine va_get (D := D) (ci := 1) (v := .ref (h 11)) (C := R_C) (T := F_C) (N := 3) hx hb htb i_C hown hK hP 0 rfl rfl 0 (by decide) (htb _ tb_35) (fun _ h9 => h9) rfl d_C_phase_31 ?_
            refine lv_iload_n hx hb d_C_phase_34 rfl (lv_at hl 0 rfl) ?_
            refine dd_aald (j := 0) hx hb hK hP 1 3 rfl rfl rfl (by decide) (by decide) rfl d_C_phase_35 ?_
            exact W.aret hx hb hr (Or.inl ⟨_, rfl⟩) (Or.inr ⟨_, rfl⟩) (fun t ht hW => ⟨0, rfl, by show _ = _; unfold dd_phN; rw [if_neg c_2, if_neg c_3, if_neg c_4, if_neg c_5], ht⟩) (fun q h => by cases h) d_C_phase_36
          · exact absurd h0 c_6
set_option maxHeartbeats 4000000 in
set_option maxRecDepth 100000 in
theorem c_C_may (l : Launch) (D : va_G) (k : Nat → ClassId) (ad : Nat → Nat) (h : Nat → Nat) (day tick : Int32) (h0 : 0 ≤ tick) (kind prio money : Int32) : Met l y_C_may w_C_may ({ frames := 1, cells := 0, slots := 0, locals := 21 }) (dd_PE D k ad (dd_wCP k ad h day tick) [.ref (h 1), .int kind, .int prio, .int money]) (vp_Si (fun r => r = dd_mayD (dd_phN tick) kind prio money)) 0 0 (fun _ => False) := by
  refine Met.ofW (cc := b_C_may) (maxL := 5) (ret := (some FieldType.boolean)) (by decide) rfl ?_
  intro p e s m args below meth c s₁ B hml hv
  obtain ⟨rfl, hP, hK, hN, hE⟩ := hv
  have hx := B.exec
  have hb := B.bytes
  have hr := B.returns
  have htb := dd_tb (atoms_spec (ws := w_C_may) B.pre)
  have hown : s.vm.findClass "DayDesk$DayClock" = some m.cls := findClass_of_methodNamed B.named
  have hlocks := B.notSynchronized
  have hS : va_S (fun _ => False) s.heap s.heap [] := va_S.rf
  have hP : va_P D dd_cl [((h 1), .inr (1, [.ref (h 11), .int day, .int tick])), ((h 11), .inl (k 3, 5, .inr (.inr (.inr (.inr (fun i => some (ad i)))))))] s.heap := hP
  have hl := lv_entry ([.ref (h 1), .int kind, .int prio, .int money]) (n := 5) (Nat.le_of_ble_eq_true rfl)
  rw [lg_entry_eq]
  generalize (lg_sl ([.ref (h 1), .int kind, .int prio, .int money]) ++ List.replicate (5 - (lg_sl ([.ref (h 1), .int kind, .int prio, .int money])).length) Slot.unset).toArray = ls at hl ⊢
  have hl : lv_has ls 5 [(0, .ref (h 1)), (1, .int kind), (2, .int prio), (3, .int money)] := hl
  refine lv_aload_n hx hb d_C_may_0 rfl (lv_at hl 0 rfl) ?_
  have hPc := hP.sub (ws' := [((h 1), .inr (1, [.ref (h 11), .int day, .int tick])), ((h 11), .inl (k 3, 5, .inr (.inr (.inr (.inr (fun i => some (ad i)))))))]) [0, 1] rfl
  refine va_csr (va_Run.run (va_runV (As := []) (rest := []) ⟨hx, hb, hml, hown, htb⟩ (c_C_phase l D k ad h day tick h0) (cwV 0 htb (dd_gV tb_129 tb_130 tb_131 tb_2 tb_132) rfl rfl rfl hd_C_phase ⟨Nat.le_of_ble_eq_true rfl, Nat.le_of_ble_eq_true rfl⟩) ⟨dd_PE.bl, va_recv hK hPc (ci := 1) (q0 := 0) rfl rfl, dd_PE.of hPc hK hN hE hS⟩ rfl rfl hl.1 rfl (lv_room (Nat.le_of_ble_eq_true rfl)) d_C_may_1 ⟨Nat.le_of_ble_eq_true rfl, Nat.le_of_ble_eq_true rfl⟩)) (fun r_1 er_1 => ?_)
  subst er_1
  refine lv_astore (lv' := [(4, .ref (ad (dd_phN tick))), (0, .ref (h 1)), (1, .int kind), (2, .int prio), (3, .int money)]) hx hb d_C_may_4 hl (by decide) rfl (fun ls hl => ?_)
  refine lv_iload_n hx hb d_C_may_6 rfl (lv_at hl 2 rfl) ?_
  refine lv_if_lt (tgt := 25) hx hb d_C_may_7 (by decide) (fun c_2 => ?_) (fun c_2 => ?_)
  · refine lv_iconst (v := 0) hx hb d_C_may_25 (by decide) ?_
    exact W.zret (v := 0) hx hb hr (by decide) (fun t ht hW => ⟨0, rfl, by unfold dd_mayD; rw [if_pos c_2], ht⟩) (fun q h => by cases h) d_C_may_26
  · refine lv_iload_n hx hb d_C_may_10 rfl (lv_at hl 2 rfl) ?_
    refine lv_bipush (v := 15) hx hb d_C_may_11 (by decide) ?_
    refine lv_icmp_ge (tgt := 25) hx hb d_C_may_13 (by decide) (fun c_3 => ?_) (fun c_3 => ?_)
    · refine lv_iconst (v := 0) hx hb d_C_may_25 (by decide) ?_
      exact W.zret (v := 0) hx hb hr (by decide) (fun t ht hW => ⟨0, rfl, by unfold dd_mayD; rw [if_neg c_2, if_pos c_3], ht⟩) (fun q h => by cases h) d_C_may_26
    · refine lv_aload hx hb d_C_may_16 (lv_at hl 0 rfl) ?_
      refine lv_iload_n hx hb d_C_may_18 rfl (lv_at hl 2 rfl) ?_
      have hPc := hP.sub (ws' := []) [] rfl
      refine vp_callSi (va_Run.run (va_runV (As := [.int kind]) (rest := []) ⟨hx, hb, hml, hown, htb⟩ (c_P_bars l D k ad h (dd_phN tick) (dd_phN_lt tick) kind) (cwV 1 htb (dd_gV tb_133 tb_134 tb_135 tb_4 tb_136) rfl rfl rfl hd_P_bars ⟨Nat.le_of_ble_eq_true rfl, Nat.le_of_ble_eq_true rfl⟩) ⟨dd_PE.bl, va_recvE hE (i := dd_phN tick) (dd_phN_lt tick) hS, dd_PE.of hPc hK hN hE hS⟩ rfl rfl hl.1 rfl (lv_room (Nat.le_of_ble_eq_true rfl)) d_C_may_19 ⟨Nat.le_of_ble_eq_true rfl, Nat.le_of_ble_eq_true rfl⟩)) (fun r_4 er_4 => ?_)
      subst er_4
      refine lv_if_eq (tgt := 27) hx hb d_C_may_22 (by decide) (fun c_5 => ?_) (fun c_5 => ?_)
      · refine lv_iload_n hx hb d_C_may_27 rfl (lv_at hl 2 rfl) ?_
        refine lv_iconst (v := 5) hx hb d_C_may_28 (by decide) ?_
        refine lv_icmp_ne (tgt := 68) hx hb d_C_may_29 (by decide) (fun c_6 => ?_) (fun c_6 => ?_)
        · refine lv_iconst (v := 1) hx hb d_C_may_68 (by decide) ?_
          refine lv_goto (tgt := 73) hx hb d_C_may_69 (by decide) ?_
          exact W.zret (v := 1) hx hb hr (by decide) (fun t ht hW => ⟨1, rfl, by unfold dd_mayD; rw [if_neg c_2, if_neg c_3, if_pos c_5, if_pos c_6], ht⟩) (fun q h => by cases h) d_C_may_73
        · refine lv_aload hx hb d_C_may_32 (lv_at hl 0 rfl) ?_
          refine dd_gsE (i := 2) hx hb hE (by decide) hS hown rfl (htb _ tb_137) (fun _ h9 => h9) d_C_may_34 ?_
          refine dd_ac_eq (tgt := 48) hx hb hE.2 (dd_phN_lt tick) (by decide) d_C_may_37 (by decide) (fun c_7 => ?_) (fun c_7 => ?_)
          · refine lv_aload hx hb d_C_may_48 (lv_at hl 0 rfl) ?_
            refine dd_gsE (i := 2) hx hb hE (by decide) hS hown rfl (htb _ tb_137) (fun _ h9 => h9) d_C_may_50 ?_
            refine dd_ac_ne (tgt := 64) hx hb hE.2 (dd_phN_lt tick) (by decide) d_C_may_53 (by decide) (fun c_8 => ?_) (fun c_8 => ?_)
            · exact absurd c_7 c_8
            · refine lv_iload_n hx hb d_C_may_56 rfl (lv_at hl 3 rfl) ?_
              refine lv_iconst (v := 4) hx hb d_C_may_57 (by decide) ?_
              refine lv_icmp_gt (tgt := 72) hx hb d_C_may_58 (by decide) (fun c_9 => ?_) (fun c_9 => ?_)
              · refine lv_iconst (v := 0) hx hb d_C_may_72 (by decide) ?_
                exact W.zret (v := 0) hx hb hr (by decide) (fun t ht hW => ⟨0, rfl, by unfold dd_mayD; rw [if_neg c_2, if_neg c_3, if_pos c_5, if_neg (not_not_intro c_6), if_pos c_7, if_pos c_9], ht⟩) (fun q h => by cases h) d_C_may_73
              · refine lv_goto (tgt := 68) hx hb d_C_may_61 (by decide) ?_
                refine lv_iconst (v := 1) hx hb d_C_may_68 (by decide) ?_
                refine lv_goto (tgt := 73) hx hb d_C_may_69 (by decide) ?_
                exact W.zret (v := 1) hx hb hr (by decide) (fun t ht hW => ⟨1, rfl, by unfold dd_mayD; rw [if_neg c_2, if_neg c_3, if_pos c_5, if_neg (not_not_intro c_6), if_pos c_7, if_neg c_9], ht⟩) (fun q h => by cases h) d_C_may_73
          · refine lv_aload hx hb d_C_may_40 (lv_at hl 0 rfl) ?_
            refine dd_gsE (i := 3) hx hb hE (by decide) hS hown rfl (htb _ tb_139) (fun _ h9 => h9) d_C_may_42 ?_
            refine dd_ac_ne (tgt := 68) hx hb hE.2 (dd_phN_lt tick) (by decide) d_C_may_45 (by decide) (fun c_10 => ?_) (fun c_10 => ?_)
            · refine lv_iconst (v := 1) hx hb d_C_may_68 (by decide) ?_
              refine lv_goto (tgt := 73) hx hb d_C_may_69 (by decide) ?_
              exact W.zret (v := 1) hx hb hr (by decide) (fun t ht hW => ⟨1, rfl, by unfold dd_mayD; rw [if_neg c_2, if_neg c_3, if_pos c_5, if_neg (not_not_intro c_6), if_neg c_7, if_neg c_10], ht⟩) (fun q h => by cases h) d_C_may_73
            · refine lv_aload hx hb d_C_may_48 (lv_at hl 0 rfl) ?_
              refine dd_gsE (i := 2) hx hb hE (by decide) hS hown rfl (htb _ tb_137) (fun _ h9 => h9) d_C_may_50 ?_
              refine dd_ac_ne (tgt := 64) hx hb hE.2 (dd_phN_lt tick) (by decide) d_C_may_53 (by decide) (fun c_11 => ?_) (fun c_11 => ?_)
              · refine lv_iload_n hx hb d_C_may_64 rfl (lv_at hl 4 rfl) ?_
                refine lv_if_eq (tgt := 72) hx hb d_C_may_65 (by decide) (fun c_12 => ?_) (fun c_12 => ?_)
                · refine lv_iconst (v := 0) hx hb d_C_may_72 (by decide) ?_
                  exact W.zret (v := 0) hx hb hr (by decide) (fun t ht hW => ⟨0, rfl, by unfold dd_mayD; rw [if_neg c_2, if_neg c_3, if_pos c_5, if_neg (not_not_intro c_6), if_neg c_7, if_pos c_10, if_pos c_12], ht⟩) (fun q h => by cases h) d_C_may_73
                · refine lv_iconst (v := 1) hx hb d_C_may_68 (by decide) ?_
                  refine lv_goto (tgt := 73) hx hb d_C_may_69 (by decide) ?_
                  exact W.zret (v := 1) hx hb hr (by decide) (fun t ht hW => ⟨1, rfl, by unfold dd_mayD; rw [if_neg c_2, if_neg c_3, if_pos c_5, if_neg (not_not_intro c_6), if_neg c_7, if_pos c_10, if_neg c_12], ht⟩) (fun q h => by cases h) d_C_may_73
              · exact absurd c_11 c_7
      · refine lv_iconst (v := 0) hx hb d_C_may_25 (by decide) ?_
        exact W.zret (v := 0) hx hb hr (by decide) (fun t ht hW => ⟨0, rfl, by unfold dd_mayD; rw [if_neg c_2, if_neg c_3, if_neg c_5], ht⟩) (fun q h => by cases h) d_C_may_26
set_option maxHeartbeats 4000000 in
set_option maxRecDepth 100000 in
theorem c_C_tillResolved (l : Launch) (D : va_G) (k : Nat → ClassId) (h : Nat → Nat) (day tick : Int32) (n : Nat) (hT : dd_TR tick n) : Met l y_C_tillResolved w_C_tillResolved ({ frames := 1, cells := 0, slots := 0, locals := 20 }) (dd_PR D k (dd_wC h day tick) [.ref (h 1)]) (vp_Si (fun r => r = nI n)) 0 0 (fun _ => False) := by
  refine Met.ofW (cc := b_C_tillResolved) (maxL := 2) (ret := (some FieldType.int)) (by decide) rfl ?_
  intro p e s m args below meth c s₁ B hml hv
  obtain ⟨rfl, hP, hK, hN⟩ := hv
  have hx := B.exec
  have hb := B.bytes
  have hr := B.returns
  have htb := dd_tb (atoms_spec (ws := w_C_tillResolved) B.pre)
  have hown : s.vm.findClass "DayDesk$DayClock" = some m.cls := findClass_of_methodNamed B.named
  have hlocks := B.notSynchronized
  have hS : va_S (fun _ => False) s.heap s.heap [] := va_S.rf
  have hP : va_P D dd_cl [((h 1), .inr (1, [.ref (h 11), .int day, .int tick]))] s.heap := hP
  have hl := lv_entry ([.ref (h 1)]) (n := 2) (Nat.le_of_ble_eq_true rfl)
  rw [lg_entry_eq]
  generalize (lg_sl ([.ref (h 1)]) ++ List.replicate (2 - (lg_sl ([.ref (h 1)])).length) Slot.unset).toArray = ls at hl ⊢
  have hl : lv_has ls 2 [(0, .ref (h 1))] := hl
  refine lv_iconst (v := 1) hx hb d_C_tillResolved_0 (by decide) ?_
  refine lv_istore_n (lv' := [(1, .int 1), (0, .ref (h 1))]) hx hb d_C_tillResolved_1 rfl hl (by decide) rfl (fun ls hl => ?_)
  have h1n := hT.1
  refine dd_loop (α := Array Slot × Nat) (I := fun a H locs => (lv_has a.1 2 [(1, .int (nI a.2)), (0, .ref (h 1))]) ∧ (1 ≤ a.2) ∧ (a.2 ≤ n) ∧ (H = s.heap) ∧ (locs = [])) (g := fun a => F0 m 2 a.1 []) (μ := fun a => n - a.2) (fun a H locs hI ih2 => ?_) (ls, 1) ⟨lv_sub hl [0, 1] rfl, Nat.le_refl 1, h1n, rfl, rfl⟩
  obtain ⟨ls, i⟩ := a
  obtain ⟨hl, hi1, hin, rfl, rfl⟩ := hI
  have hl : lv_has ls 2 [(1, .int (nI i)), (0, .ref (h 1))] := hl
  have hi1 : 1 ≤ i := hi1
  have hin : i ≤ n := hin
  refine W.eq (g2 := F0 m 2 ls []) rfl ?_
  refine lv_aload_n hx hb d_C_tillResolved_2 rfl (lv_at hl 1 rfl) ?_
  refine va_get (D := D) (ci := 1) (v := .int tick) (C := R_C) (T := F_C) (N := 3) hx hb htb i_C hown hK hP 0 rfl rfl 2 (by decide) (htb _ tb_38) (fun _ h9 => h9) rfl d_C_tillResolved_3 ?_
  refine lv_iload_n hx hb d_C_tillResolved_6 rfl (lv_at hl 0 rfl) ?_
  refine lv_iadd hx hb d_C_tillResolved_7 ?_
  refine lv_sipush (v := 1000) hx hb d_C_tillResolved_8 (by decide) ?_
  refine lv_irem hx hb d_C_tillResolved_11 (by decide) ?_
  refine vp_callSi (va_Run.run (va_runS (As := [.int ((tick + (nI i)) - (tick + (nI i)) / 1000 * 1000)]) (rest := []) ⟨hx, hb, hml, hown, htb⟩ (c_C_isResolved l ((tick + (nI i)) - (tick + (nI i)) / 1000 * 1000)) (va_cwS 1 htb (dd_gS tb_108 tb_109 tb_2 tb_110) rfl rfl rfl hd_C_isResolved.2 ⟨Nat.le_of_ble_eq_true rfl, Nat.le_of_ble_eq_true rfl⟩) ⟨dd_PS.bl, dd_PS.of⟩ rfl rfl hl.1 rfl (lv_room (Nat.le_of_ble_eq_true rfl)) d_C_tillResolved_12 ⟨Nat.le_of_ble_eq_true rfl, Nat.le_of_ble_eq_true rfl⟩)) (fun r_1 er_1 => ?_)
  subst er_1
  refine lv_if_ne (tgt := 24) hx hb d_C_tillResolved_15 (by decide) (fun c_2 => ?_) (fun c_2 => ?_)
  · obtain rfl : i = n := by
      rcases Nat.lt_or_ge i n with q | q
      · exact absurd (hT.2.2.2 i hi1 q) c_2
      · omega
    refine lv_iload_n hx hb d_C_tillResolved_24 rfl (lv_at hl 0 rfl) ?_
    exact W.iret (v := (nI i)) hx hb hr (fun t ht hW => ⟨(nI i), rfl, rfl, ht⟩) (fun q h => by cases h) d_C_tillResolved_25
  · have hlt : i < n := by
      rcases Nat.lt_or_ge i n with q | q
      · exact q
      · obtain rfl : i = n := by omega
        exact absurd c_2 hT.2.2.1
    refine lv_iinc (v := (nI (i + 1))) (lv' := [(1, .int (nI (i + 1))), (0, .ref (h 1))]) hx hb d_C_tillResolved_18 hl (k := 0) rfl (dd_inc i) (by decide) rfl (fun ls hl => ?_)
    refine lv_goto (tgt := 2) hx hb d_C_tillResolved_21 (by decide) ?_
    exact ih2 (ls, (i + 1)) _ _ ⟨lv_sub hl [0, 1] rfl, by omega, hlt, rfl, rfl⟩ (by dsimp only; omega)
set_option maxHeartbeats 4000000 in
set_option maxRecDepth 100000 in
theorem c_C_tillPhase (l : Launch) (D : va_G) (k : Nat → ClassId) (ad : Nat → Nat) (h : Nat → Nat) (day tick : Int32) (h0 : 0 ≤ tick) : Met l y_C_tillPhase w_C_tillPhase ({ frames := 1, cells := 0, slots := 0, locals := 21 }) (dd_PE D k ad (dd_wCP k ad h day tick) [.ref (h 1)]) (vp_Si (fun r => r = dd_tP tick)) 0 0 (fun _ => False) := by
  refine Met.ofW (cc := b_C_tillPhase) (maxL := 2) (ret := (some FieldType.int)) (by decide) rfl ?_
  intro p e s m args below meth c s₁ B hml hv
  obtain ⟨rfl, hP, hK, hN, hE⟩ := hv
  have hx := B.exec
  have hb := B.bytes
  have hr := B.returns
  have htb := dd_tb (atoms_spec (ws := w_C_tillPhase) B.pre)
  have hown : s.vm.findClass "DayDesk$DayClock" = some m.cls := findClass_of_methodNamed B.named
  have hlocks := B.notSynchronized
  have hS : va_S (fun _ => False) s.heap s.heap [] := va_S.rf
  have hP : va_P D dd_cl [((h 1), .inr (1, [.ref (h 11), .int day, .int tick])), ((h 11), .inl (k 3, 5, .inr (.inr (.inr (.inr (fun i => some (ad i)))))))] s.heap := hP
  have hl := lv_entry ([.ref (h 1)]) (n := 2) (Nat.le_of_ble_eq_true rfl)
  rw [lg_entry_eq]
  generalize (lg_sl ([.ref (h 1)]) ++ List.replicate (2 - (lg_sl ([.ref (h 1)])).length) Slot.unset).toArray = ls at hl ⊢
  have hl : lv_has ls 2 [(0, .ref (h 1))] := hl
  refine lv_aload_n hx hb d_C_tillPhase_0 rfl (lv_at hl 0 rfl) ?_
  have hPc := hP.sub (ws' := [((h 1), .inr (1, [.ref (h 11), .int day, .int tick])), ((h 11), .inl (k 3, 5, .inr (.inr (.inr (.inr (fun i => some (ad i)))))))]) [0, 1] rfl
  refine va_csr (va_Run.run (va_runV (As := []) (rest := []) ⟨hx, hb, hml, hown, htb⟩ (c_C_phase l D k ad h day tick h0) (cwV 0 htb (dd_gV tb_129 tb_130 tb_131 tb_2 tb_132) rfl rfl rfl hd_C_phase ⟨Nat.le_of_ble_eq_true rfl, Nat.le_of_ble_eq_true rfl⟩) ⟨dd_PE.bl, va_recv hK hPc (ci := 1) (q0 := 0) rfl rfl, dd_PE.of hPc hK hN hE hS⟩ rfl rfl hl.1 rfl (lv_room (Nat.le_of_ble_eq_true rfl)) d_C_tillPhase_1 ⟨Nat.le_of_ble_eq_true rfl, Nat.le_of_ble_eq_true rfl⟩)) (fun r_1 er_1 => ?_)
  subst er_1
  refine dd_getEN (i := (dd_phN tick)) (q := ("DayDesk$Phase", "number", "I", [0, 1, 2, 3, 4])) (v := (nI (dd_phN tick))) hx hb hE (dd_phN_lt tick) hS hown (by decide) (va_Nw.use rfl hN.2.2.2.2.2.2) (fun _ h9 => h9) (dd_num _ (dd_phN_lt tick)) d_C_tillPhase_4 ?_
  refine lv_istore_n (lv' := [(1, .int (nI (dd_phN tick))), (0, .ref (h 1))]) hx hb d_C_tillPhase_7 rfl hl (by decide) rfl (fun ls hl => ?_)
  refine lv_iload_n hx hb d_C_tillPhase_8 rfl (lv_at hl 0 rfl) ?_
  refine lv_iconst (v := 1) hx hb d_C_tillPhase_9 (by decide) ?_
  refine lv_iadd hx hb d_C_tillPhase_10 ?_
  refine lv_aload_n hx hb d_C_tillPhase_11 rfl (lv_at hl 1 rfl) ?_
  refine va_get (D := D) (ci := 1) (v := .ref (h 11)) (C := R_C) (T := F_C) (N := 3) hx hb htb i_C hown hK hP 0 rfl rfl 0 (by decide) (htb _ tb_35) (fun _ h9 => h9) rfl d_C_tillPhase_12 ?_
  refine va_alen (v := 5) hx hb hK hP 1 3 rfl rfl (show Int32.ofNat 5 = 5 by decide) d_C_tillPhase_15 ?_
  refine lv_icmp_ge (tgt := 33) hx hb d_C_tillPhase_16 (by decide) (fun c_2 => ?_) (fun c_2 => ?_)
  · refine lv_sipush (v := 1000) hx hb d_C_tillPhase_33 (by decide) ?_
    refine lv_aload_n hx hb d_C_tillPhase_36 rfl (lv_at hl 1 rfl) ?_
    refine va_get (D := D) (ci := 1) (v := .int tick) (C := R_C) (T := F_C) (N := 3) hx hb htb i_C hown hK hP 0 rfl rfl 2 (by decide) (htb _ tb_38) (fun _ h9 => h9) rfl d_C_tillPhase_37 ?_
    refine lv_isub hx hb d_C_tillPhase_40 ?_
    exact W.iret (v := (1000 - tick)) hx hb hr (fun t ht hW => ⟨(1000 - tick), rfl, by unfold dd_tP; rw [if_pos c_2], ht⟩) (fun q h => by cases h) d_C_tillPhase_41
  · have hj : dd_phN tick + 1 < 5 := dd_5le (dd_phN_lt tick) c_2
    refine lv_aload_n hx hb d_C_tillPhase_19 rfl (lv_at hl 1 rfl) ?_
    refine va_get (D := D) (ci := 1) (v := .ref (h 11)) (C := R_C) (T := F_C) (N := 3) hx hb htb i_C hown hK hP 0 rfl rfl 0 (by decide) (htb _ tb_35) (fun _ h9 => h9) rfl d_C_tillPhase_20 ?_
    refine lv_iload_n hx hb d_C_tillPhase_23 rfl (lv_at hl 0 rfl) ?_
    refine lv_iconst (v := 1) hx hb d_C_tillPhase_24 (by decide) ?_
    refine lv_iadd hx hb d_C_tillPhase_25 ?_
    refine dd_aald (j := (dd_phN tick + 1)) hx hb hK hP 1 3 rfl rfl (nI_1 _) hj (by decide) rfl d_C_tillPhase_26 ?_
    refine dd_getEN (i := (dd_phN tick + 1)) (q := ("DayDesk$Phase", "begin", "I", [0, 100, 700, 800, 900])) (v := (dd_beg (dd_phN tick + 1))) hx hb hE hj hS hown (by decide) (va_Nw.use rfl hN.2.2.2.2.1) (fun _ h9 => h9) rfl d_C_tillPhase_27 ?_
    refine lv_goto (tgt := 36) hx hb d_C_tillPhase_30 (by decide) ?_
    refine lv_aload_n hx hb d_C_tillPhase_36 rfl (lv_at hl 1 rfl) ?_
    refine va_get (D := D) (ci := 1) (v := .int tick) (C := R_C) (T := F_C) (N := 3) hx hb htb i_C hown hK hP 0 rfl rfl 2 (by decide) (htb _ tb_38) (fun _ h9 => h9) rfl d_C_tillPhase_37 ?_
    refine lv_isub hx hb d_C_tillPhase_40 ?_
    exact W.iret (v := ((dd_beg (dd_phN tick + 1)) - tick)) hx hb hr (fun t ht hW => ⟨((dd_beg (dd_phN tick + 1)) - tick), rfl, by unfold dd_tP; rw [if_neg c_2], ht⟩) (fun q h => by cases h) d_C_tillPhase_41
set_option maxHeartbeats 4000000 in
set_option maxRecDepth 100000 in
theorem c_W_blank (l : Launch) (D : va_G) (k : Nat → ClassId) (h : Nat → Nat) (sz : Nat) (bt dg : Nat → Int32) (z : Nat) (hz : z < 120) : Met l y_W_blank w_W_blank ({ frames := 0, cells := 0, slots := 0, locals := 0 }) (dd_PM D k sz (dd_wW k h (bt, dg, nI z)) [.ref (h 8)]) (dd_Qv D (fun u : dd_WS => u = (upd bt z 32, dg, nI (z + 1))) (fun u => dd_wW k h u) (va_A (dd_wW k h (bt, dg, nI z)) sz)) 0 0 (va_A (dd_wW k h (bt, dg, nI z)) sz) := by
  refine Met.ofW (cc := b_W_blank) (maxL := 1) (ret := none) (by decide) rfl ?_
  intro p e s m args below meth c s₁ B hml hv
  obtain ⟨rfl, hsz, hP, hD0, hK, hN⟩ := hv
  have hx := B.exec
  have hb := B.bytes
  have hr := B.returns
  have htb := dd_tb (atoms_spec (ws := w_W_blank) B.pre)
  have hown : s.vm.findClass "DayDesk$NumberWriter" = some m.cls := findClass_of_methodNamed B.named
  have hlocks := B.notSynchronized
  subst hsz
  have hD := hD0.self (sz := s.heap.size)
  generalize hAe : va_A (dd_wW k h (bt, dg, nI z)) s.heap.size = A at hD ⊢
  have hA : ∀ q : Nat, s.heap.size ≤ q → A q := fun q h => by rw [← hAe]; exact Or.inr h
  have hS : va_S A s.heap s.heap [] := va_S.rf
  have hP : va_P D dd_cl [((h 8), .inr (3, [.ref (h 9), .ref (h 10), .int (nI z)])), ((h 9), .inl (k 2, 120, .inl bt)), ((h 10), .inl (k 2, 20, .inl dg))] s.heap := hP
  have hD : va_D A [((h 8), .inr (3, [.ref (h 9), .ref (h 10), .int (nI z)])), ((h 9), .inl (k 2, 120, .inl bt)), ((h 10), .inl (k 2, 20, .inl dg))] := hD
  have hl := lv_entry ([.ref (h 8)]) (n := 1) (Nat.le_of_ble_eq_true rfl)
  rw [lg_entry_eq]
  generalize (lg_sl ([.ref (h 8)]) ++ List.replicate (1 - (lg_sl ([.ref (h 8)])).length) Slot.unset).toArray = ls at hl ⊢
  have hl : lv_has ls 1 [(0, .ref (h 8))] := hl
  refine lv_aload_n hx hb d_W_blank_0 rfl (lv_at hl 0 rfl) ?_
  refine va_get (D := D) (ci := 3) (v := .ref (h 9)) (C := R_W) (T := F_W) (N := 3) hx hb htb i_W hown hK hP 0 rfl rfl 0 (by decide) (htb _ tb_77) (fun _ h9 => h9) rfl d_W_blank_1 ?_
  refine lv_aload_n hx hb d_W_blank_4 rfl (lv_at hl 0 rfl) ?_
  refine va_get (D := D) (ci := 3) (v := .int (nI z)) (C := R_W) (T := F_W) (N := 3) hx hb htb i_W hown hK hP 0 rfl rfl 2 (by decide) (htb _ tb_80) (fun _ h9 => h9) rfl d_W_blank_5 ?_
  refine lv_bipush (v := 32) hx hb d_W_blank_8 (by decide) ?_
  refine dd_bast (j := z) (y := 32) hx hb hK hP hD hS 1 2 rfl rfl rfl hz (by decide) (by decide) d_W_blank_10 (fun H locs hP hD hS => ?_)
  have hP : va_P D dd_cl [((h 8), .inr (3, [.ref (h 9), .ref (h 10), .int (nI z)])), ((h 9), .inl (k 2, 120, .inl (upd bt z 32))), ((h 10), .inl (k 2, 20, .inl dg))] H := hP
  have hD : va_D A [((h 8), .inr (3, [.ref (h 9), .ref (h 10), .int (nI z)])), ((h 9), .inl (k 2, 120, .inl (upd bt z 32))), ((h 10), .inl (k 2, 20, .inl dg))] := hD
  refine lv_aload_n hx hb d_W_blank_11 rfl (lv_at hl 0 rfl) ?_
  refine lv_dup hx hb d_W_blank_12 rfl ?_
  refine va_get (D := D) (ci := 3) (v := .int (nI z)) (C := R_W) (T := F_W) (N := 3) hx hb htb i_W hown hK hP 0 rfl rfl 2 (by decide) (htb _ tb_80) (fun _ h9 => h9) rfl d_W_blank_13 ?_
  refine lv_iconst (v := 1) hx hb d_W_blank_16 (by decide) ?_
  refine lv_iadd hx hb d_W_blank_17 ?_
  refine lv_topi (fun y_1 ey_1 => ?_)
  obtain rfl : y_1 = (nI (z + 1)) := ey_1.trans (nI_1 z)
  refine va_put (D := D) (ci := 3) (v := .int (nI (z + 1))) (ty := .int) (C := R_W) (T := F_W) (N := 3) hx hb htb i_W t_W t_W_ok n_W hown hK hP hD hS 0 rfl rfl 2 (by decide) (htb _ tb_80) (fun _ h9 => h9) rfl (by decide +kernel) rfl rfl (Nat.le_of_ble_eq_true rfl) d_W_blank_18 (fun H locs hP hD hS => ?_)
  have hP : va_P D dd_cl [((h 8), .inr (3, [.ref (h 9), .ref (h 10), .int (nI (z + 1))])), ((h 9), .inl (k 2, 120, .inl (upd bt z 32))), ((h 10), .inl (k 2, 20, .inl dg))] H := hP
  have hD : va_D A [((h 8), .inr (3, [.ref (h 9), .ref (h 10), .int (nI (z + 1))])), ((h 9), .inl (k 2, 120, .inl (upd bt z 32))), ((h 10), .inl (k 2, 20, .inl dg))] := hD
  exact W.vret hx hb hr (fun t ht hW => ⟨⟨(upd bt z 32, dg, nI (z + 1)), rfl, rfl, by rw [ht]; exact hP, hD⟩, hS.F ht⟩) hS.2.2 d_W_blank_21
end
section
/-! digits: what the two writers write, and that it is the same -/
section DDH
variable {p : Program} {l : Launch} {e : Env} {R : Room} {s : State} {m : MethodId} {args : Array Value} {below : List Frame} {meth : Method} {c : Code} {H : Heap} {locs : List Loc} {cells slots : Nat} {Q : State → Prop}
theorem dd_jnH {α : Type} {P : α → Heap → List Loc → Prop} {g : α → JFrame} {g0 : JFrame} (k : ∀ z H1 locs1, P z H1 locs1 → W p l e R s m args below meth c H1 locs1 cells slots Q (g z)) (main : (∀ z H1 locs1, P z H1 locs1 → W p l e R s m args below meth c H1 locs1 cells slots Q (g z)) → W p l e R s m args below meth c H locs cells slots Q g0) : W p l e R s m args below meth c H locs cells slots Q g0 := main k
end DDH
def dd_dv : Nat → Int64 → Int64
  | 0, v => v
  | i + 1, v => dd_dv i v / 10
def dd_dg (r : Int64) : Int32 := 48 + (if 0 ≤ (r - r / 10 * 10) then (r - r / 10 * 10) else (-(r - r / 10 * 10))).toInt32
theorem dd_rem10 (r : Int64) : -10 < (r - r / 10 * 10).toInt ∧ (r - r / 10 * 10).toInt < 10 := by
  have h10 : (10 : Int64).toInt = 10 := by decide
  have hd : (r / 10).toInt = r.toInt.tdiv 10 := by
    have := Kit.i64_div (x := r) (y := 10) (by rw [h10]; omega)
    rw [this, h10]
  have hb := tmod_bounds (a := r.toInt) (M := 10) (by decide)
  have hm := Int.tmod_add_mul_tdiv r.toInt 10
  have e1 : (r - r / 10 * 10).toInt = r.toInt.tmod 10 := by
    rw [Int64.toInt_sub, Int64.toInt_mul, hd, h10]
    rw [Int.sub_bmod_bmod]
    have : r.toInt - r.toInt.tdiv 10 * 10 = r.toInt.tmod 10 := by omega
    rw [this]
    exact Int.bmod_eq_of_le (by omega) (by omega)
  rw [e1]
  exact hb
theorem dd_small10 (x : Int64) (h1 : -10 < x.toInt) (h2 : x.toInt < 10) : (vp_nar .byte ((48 + (if 0 ≤ x.toInt32 then x.toInt32 else (-x.toInt32))).toInt8.toInt32) = 48 + (if 0 ≤ x then x else (-x)).toInt32) ∧ vp_nar .byte (48 + (if 0 ≤ x then x else (-x)).toInt32) = 48 + (if 0 ≤ x then x else (-x)).toInt32 := by
  have key : ∀ n : Int, -10 < n → n < 10 → n = -9 ∨ n = -8 ∨ n = -7 ∨ n = -6 ∨ n = -5 ∨ n = -4 ∨ n = -3 ∨ n = -2 ∨ n = -1 ∨ n = 0 ∨ n = 1 ∨ n = 2 ∨ n = 3 ∨ n = 4 ∨ n = 5 ∨ n = 6 ∨ n = 7 ∨ n = 8 ∨ n = 9 := by intro n _ _; omega
  have to : ∀ y : Int64, x.toInt = y.toInt → x = y := fun y q => Int64.toInt_inj.mp q
  rcases key x.toInt h1 h2 with q | q | q | q | q | q | q | q | q | q | q | q | q | q | q | q | q | q | q
  · rw [to (-9) (q.trans (by decide))]; decide
  · rw [to (-8) (q.trans (by decide))]; decide
  · rw [to (-7) (q.trans (by decide))]; decide
  · rw [to (-6) (q.trans (by decide))]; decide
  · rw [to (-5) (q.trans (by decide))]; decide
  · rw [to (-4) (q.trans (by decide))]; decide
  · rw [to (-3) (q.trans (by decide))]; decide
  · rw [to (-2) (q.trans (by decide))]; decide
  · rw [to (-1) (q.trans (by decide))]; decide
  · rw [to 0 (q.trans (by decide))]; decide
  · rw [to 1 (q.trans (by decide))]; decide
  · rw [to 2 (q.trans (by decide))]; decide
  · rw [to 3 (q.trans (by decide))]; decide
  · rw [to 4 (q.trans (by decide))]; decide
  · rw [to 5 (q.trans (by decide))]; decide
  · rw [to 6 (q.trans (by decide))]; decide
  · rw [to 7 (q.trans (by decide))]; decide
  · rw [to 8 (q.trans (by decide))]; decide
  · rw [to 9 (q.trans (by decide))]; decide
theorem dd_dgW (r : Int64) : vp_nar .byte ((48 + (if 0 ≤ (r - r / 10 * 10).toInt32 then (r - r / 10 * 10).toInt32 else (-(r - r / 10 * 10).toInt32))).toInt8.toInt32) = dd_dg r := (dd_small10 _ (dd_rem10 r).1 (dd_rem10 r).2).1
theorem dd_dg_nar (r : Int64) : vp_nar .byte (dd_dg r) = dd_dg r := (dd_small10 _ (dd_rem10 r).1 (dd_rem10 r).2).2
/-- n: how many digits -/
def dd_isN (v : Int64) (n : Nat) : Prop := 1 ≤ n ∧ n ≤ 19 ∧ dd_dv n v = 0 ∧ ∀ i, 1 ≤ i → i < n → ¬ dd_dv i v = 0
theorem dd_tt (a : Int) (n k : Nat) : (a.tdiv n).tdiv k = a.tdiv ((n * k : Nat) : Int) := by
  obtain ⟨m, rfl | rfl⟩ := Int.eq_nat_or_neg a
  · rw [← Int.ofNat_tdiv, ← Int.ofNat_tdiv, ← Int.ofNat_tdiv, Nat.div_div_eq_div_mul]
  · rw [Int.neg_tdiv, Int.neg_tdiv, Int.neg_tdiv, ← Int.ofNat_tdiv, ← Int.ofNat_tdiv, ← Int.ofNat_tdiv, Nat.div_div_eq_div_mul]
theorem dd_dv_toInt (v : Int64) (i : Nat) : (dd_dv i v).toInt = v.toInt.tdiv (10 ^ i : Nat) := by
  induction i with
  | zero => simp [dd_dv]
  | succ i ih =>
    have h10 : (10 : Int64).toInt = 10 := by decide
    show (dd_dv i v / 10).toInt = _
    rw [Kit.i64_div (by rw [h10]; omega), h10, ih]
    exact (dd_tt v.toInt (10 ^ i) 10).trans (by rw [Nat.pow_succ])
theorem dd_dv19 (v : Int64) : dd_dv 19 v = 0 := by
  apply Int64.toInt_inj.mp
  rw [dd_dv_toInt, show (0 : Int64).toInt = 0 from by decide]
  have h1 := Int64.le_toInt v
  have h2 := Int64.toInt_lt v
  have e9 : ((10 ^ 19 : Nat) : Int) = 10000000000000000000 := by decide
  rw [e9]
  rcases Int.le_total 0 v.toInt with h | h
  · exact Int.tdiv_eq_zero_of_lt h (by omega)
  · have := Int.tdiv_eq_zero_of_lt (a := -v.toInt) (b := 10000000000000000000) (by omega) (by omega)
    rw [Int.neg_tdiv] at this
    omega
theorem dd_isN_ex (v : Int64) : ∃ n, dd_isN v n := by
  obtain ⟨n, ⟨h1, h2⟩, h3⟩ := pk_least (fun n => 1 ≤ n ∧ dd_dv n v = 0) ⟨19, by decide, dd_dv19 v⟩
  refine ⟨n, h1, ?_, h2, fun i hi hn q => h3 i hn ⟨hi, q⟩⟩
  rcases Nat.lt_or_ge 19 n with q | q
  · exact absurd ⟨by decide, dd_dv19 v⟩ (h3 19 q)
  · exact q
/-- a list written from place z on -/
def dd_app : (Nat → Int32) → Nat → List Int32 → (Nat → Int32)
  | f, _, [] => f
  | f, z, x :: r => dd_app (upd f z x) (z + 1) r
theorem dd_app_snoc (r : List Int32) : ∀ (f : Nat → Int32) (z : Nat) (x : Int32), dd_app f z (r ++ [x]) = upd (dd_app f z r) (z + r.length) x := by
  induction r with
  | nil => intro f z x; rfl
  | cons y r ih =>
    intro f z x
    show dd_app (upd f z y) (z + 1) (r ++ [x]) = upd (dd_app (upd f z y) (z + 1) r) (z + (y :: r).length) x
    rw [ih]
    congr 1
    simp only [List.length_cons]
    omega
theorem dd_app_app (r q : List Int32) : ∀ (f : Nat → Int32) (z : Nat), dd_app f z (r ++ q) = dd_app (dd_app f z r) (z + r.length) q := by
  induction r with
  | nil => intro f z; rfl
  | cons y r ih =>
    intro f z
    show dd_app (upd f z y) (z + 1) (r ++ q) = dd_app (dd_app (upd f z y) (z + 1) r) (z + (y :: r).length) q
    rw [ih]
    congr 1
    simp only [List.length_cons]
    omega
theorem dd_app_lo (r : List Int32) : ∀ (f : Nat → Int32) (z i : Nat), i < z → dd_app f z r i = f i := by
  induction r with
  | nil => intro f z i _; rfl
  | cons y r ih =>
    intro f z i h
    show dd_app (upd f z y) (z + 1) r i = f i
    rw [ih _ _ _ (by omega)]
    unfold upd
    rw [if_neg (by omega)]
theorem dd_app_at (r : List Int32) : ∀ (f : Nat → Int32) (z i : Nat), i < r.length → dd_app f z r (z + i) = r.getD i 0 := by
  induction r with
  | nil => intro f z i h; exact absurd h (Nat.not_lt_zero i)
  | cons y r ih =>
    intro f z i h
    show dd_app (upd f z y) (z + 1) r (z + i) = (y :: r).getD i 0
    cases i with
    | zero =>
      rw [dd_app_lo _ _ _ _ (by omega)]
      simp [upd]
    | succ i =>
      have h2 : i < r.length := by simpa using h
      have := ih (upd f z y) (z + 1) i h2
      rw [show z + (i + 1) = z + 1 + i by omega, this]
      simp
def dd_ds (f : Nat → Int32) (n : Nat) : Nat → List Int32
  | 0 => []
  | c + 1 => dd_ds f n c ++ [f (n - 1 - c)]
theorem dd_ds_len (f : Nat → Int32) (n c : Nat) : (dd_ds f n c).length = c := by
  induction c with
  | zero => rfl
  | succ c ih => simp [dd_ds, ih]
def dd_dsv (v : Int64) (n c : Nat) : List Int32 := dd_ds (fun i => dd_dg (dd_dv i v)) n c
def dd_sg (v : Int64) : List Int32 := if 0 ≤ v then [] else [45]
theorem dd_sg_len (v : Int64) : (dd_sg v).length ≤ 1 := by
  unfold dd_sg
  split <;> simp
def dd_txt (v : Int64) (n : Nat) : List Int32 := dd_sg v ++ dd_dsv v n n
theorem dd_txt_len {v : Int64} {n : Nat} (hn : dd_isN v n) : (dd_txt v n).length ≤ 20 := by
  unfold dd_txt dd_dsv
  rw [List.length_append, dd_ds_len]
  have := dd_sg_len v
  have := hn.2.1
  omega
theorem dd_app_ds (f : Nat → Int32) (z : Nat) (sg : List Int32) (v : Int64) (n c : Nat) : upd (dd_app f z (sg ++ dd_dsv v n c)) (z + (sg ++ dd_dsv v n c).length) (dd_dg (dd_dv (n - 1 - c) v)) = dd_app f z (sg ++ dd_dsv v n (c + 1)) := by
  rw [← dd_app_snoc, List.append_assoc]
  rfl
theorem dd_len_ds (z : Nat) (sg : List Int32) (v : Int64) (n c : Nat) : z + (sg ++ dd_dsv v n c).length + 1 = z + (sg ++ dd_dsv v n (c + 1)).length := by
  unfold dd_dsv
  rw [List.length_append, List.length_append, dd_ds_len, dd_ds_len]
  omega
theorem dd_len_sd (sg : List Int32) (v : Int64) (n c : Nat) : (sg ++ dd_dsv v n c).length = sg.length + c := by
  unfold dd_dsv
  rw [List.length_append, dd_ds_len]
theorem dd_dqstep {dq : Nat → Int32} {v : Int64} {i : Nat} (h : ∀ q, q < i → dq q = dd_dg (dd_dv q v)) : ∀ q, q < i + 1 → upd dq i (dd_dg (dd_dv i v)) q = dd_dg (dd_dv q v) := by
  intro q hq
  unfold upd
  by_cases e : q = i
  · rw [if_pos e, e]
  · rw [if_neg e]; exact h q (by omega)
theorem dd_ix {n c : Nat} (h : c < n) : nI (n - c) - 1 = nI (n - 1 - c) := by
  rw [show n - c = (n - 1 - c) + 1 by omega]
  exact nI_pred _
theorem dd_decx {n c : Nat} (h : c < n) : nI (n - c) - 1 + Int32.ofInt (-1) = nI (n - (c + 1)) - 1 := by
  rw [dd_ix h, show n - 1 - c = n - (c + 1) by omega, show Int32.ofInt (-1) = -1 from by decide, Int32.sub_eq_add_neg]
theorem dd_neg1 {n c : Nat} (hn : n ≤ 19) (hc : c ≤ n) (h : nI (n - c) - 1 < 0) : c = n := by
  rcases Nat.lt_or_ge c n with q | q
  · rw [dd_ix q] at h
    exact absurd h (nI_pos (by omega))
  · omega
theorem dd_nneg1 {n c : Nat} (hn : n ≤ 19) (hc : c ≤ n) (h : ¬ nI (n - c) - 1 < 0) : c < n := by
  rcases Nat.lt_or_ge c n with q | q
  · exact q
  · obtain rfl : c = n := by omega
    rw [Nat.sub_self] at h
    exact absurd (by decide) h
theorem dd_isN_lt {v : Int64} {n i : Nat} (hn : dd_isN v n) (hi : i < n) (h : ¬ dd_dv (i + 1) v = 0) : i + 1 < n := by
  rcases Nat.lt_or_ge (i + 1) n with q | q
  · exact q
  · obtain rfl : n = i + 1 := by omega
    exact absurd hn.2.2.1 h
theorem dd_isN_eq {v : Int64} {n i : Nat} (hn : dd_isN v n) (hi : i < n) (h : dd_dv (i + 1) v = 0) : i + 1 = n := by
  rcases Nat.lt_or_ge (i + 1) n with q | q
  · exact absurd h (hn.2.2.2 (i + 1) (by omega) q)
  · omega
end
section
/-! contract: a number is written -/
set_option maxHeartbeats 4000000 in
set_option maxRecDepth 100000 in
theorem c_W_write (l : Launch) (D : va_G) (k : Nat → ClassId) (h : Nat → Nat) (sz : Nat) (bt dg : Nat → Int32) (z : Nat) (v : Int64) (n : Nat) (hn : dd_isN v n) (hz : z + 20 ≤ 120) : Met l y_W_write w_W_write ({ frames := 0, cells := 0, slots := 0, locals := 0 }) (dd_PM D k sz (dd_wW k h (bt, dg, nI z)) [.ref (h 8), .long v]) (dd_Qv D (fun u : dd_WS => u.1 = dd_app bt z (dd_txt v n) ∧ u.2.2 = nI (z + (dd_txt v n).length)) (fun u => dd_wW k h u) (va_A (dd_wW k h (bt, dg, nI z)) sz)) 0 0 (va_A (dd_wW k h (bt, dg, nI z)) sz) := by
  refine Met.ofW (cc := b_W_write) (maxL := 7) (ret := none) (by decide) rfl ?_
  intro p e s m args below meth c s₁ B hml hv
  obtain ⟨rfl, hsz, hP, hD0, hK, hN⟩ := hv
  have hx := B.exec
  have hb := B.bytes
  have hr := B.returns
  have htb := dd_tb (atoms_spec (ws := w_W_write) B.pre)
  have hown : s.vm.findClass "DayDesk$NumberWriter" = some m.cls := findClass_of_methodNamed B.named
  have hlocks := B.notSynchronized
  subst hsz
  have hD := hD0.self (sz := s.heap.size)
  generalize hAe : va_A (dd_wW k h (bt, dg, nI z)) s.heap.size = A at hD ⊢
  have hA : ∀ q : Nat, s.heap.size ≤ q → A q := fun q h => by rw [← hAe]; exact Or.inr h
  have hS : va_S A s.heap s.heap [] := va_S.rf
  have hP : va_P D dd_cl [((h 8), .inr (3, [.ref (h 9), .ref (h 10), .int (nI z)])), ((h 9), .inl (k 2, 120, .inl bt)), ((h 10), .inl (k 2, 20, .inl dg))] s.heap := hP
  have hD : va_D A [((h 8), .inr (3, [.ref (h 9), .ref (h 10), .int (nI z)])), ((h 9), .inl (k 2, 120, .inl bt)), ((h 10), .inl (k 2, 20, .inl dg))] := hD
  have hl := lv_entry ([.ref (h 8), .long v]) (n := 7) (Nat.le_of_ble_eq_true rfl)
  rw [lg_entry_eq]
  generalize (lg_sl ([.ref (h 8), .long v]) ++ List.replicate (7 - (lg_sl ([.ref (h 8), .long v])).length) Slot.unset).toArray = ls at hl ⊢
  have hl : lv_has ls 7 [(0, .ref (h 8)), (1, .long v)] := hl
  refine dd_jnH (α := List Int32) (P := fun sg H locs => sg = dd_sg v ∧ va_P D dd_cl [((h 8), .inr (3, [.ref (h 9), .ref (h 10), .int (nI (z + (sg : List Int32).length))])), ((h 9), .inl (k 2, 120, .inl (dd_app bt z sg))), ((h 10), .inl (k 2, 20, .inl dg))] H ∧ va_D A [((h 8), .inr (3, [.ref (h 9), .ref (h 10), .int (nI (z + (sg : List Int32).length))])), ((h 9), .inl (k 2, 120, .inl (dd_app bt z sg))), ((h 10), .inl (k 2, 20, .inl dg))] ∧ va_S A s.heap H locs) (g := fun _ => F0 m 27 ls []) (fun sg H locs hJ => ?_) (fun jn27 => ?_)
  · obtain ⟨esg, hP, hD, hS⟩ := hJ
    have hP : va_P D dd_cl [((h 8), .inr (3, [.ref (h 9), .ref (h 10), .int (nI (z + (sg : List Int32).length))])), ((h 9), .inl (k 2, 120, .inl (dd_app bt z sg))), ((h 10), .inl (k 2, 20, .inl dg))] H := hP
    have hD : va_D A [((h 8), .inr (3, [.ref (h 9), .ref (h 10), .int (nI (z + (sg : List Int32).length))])), ((h 9), .inl (k 2, 120, .inl (dd_app bt z sg))), ((h 10), .inl (k 2, 20, .inl dg))] := hD
    have hsl : sg.length ≤ 1 := by rw [esg]; exact dd_sg_len v
    have hn19 := hn.2.1
    refine lv_iconst (v := 0) hx hb d_W_write_27 (by decide) ?_
    refine lv_istore_n (lv' := [(3, .int 0), (0, .ref (h 8)), (1, .long v)]) hx hb d_W_write_28 rfl hl (by decide) rfl (fun ls hl => ?_)
    refine lv_lload_n hx hb d_W_write_29 rfl (lv_at hl 2 rfl) ?_
    refine lv_lstore (lv' := [(4, .long v), (3, .int 0), (0, .ref (h 8)), (1, .long v)]) hx hb d_W_write_30 hl (by decide) rfl (fun ls hl => ?_)
    refine dd_loop (α := Array Slot × Nat × (Nat → Int32)) (I := fun a H locs => (lv_has a.1 7 [(4, .long (dd_dv a.2.1 v)), (3, .int (nI a.2.1)), (1, .long v), (0, .ref (h 8))]) ∧ (a.2.1 < n) ∧ (∀ q, q < a.2.1 → a.2.2 q = dd_dg (dd_dv q v)) ∧ (va_P D dd_cl [((h 8), .inr (3, [.ref (h 9), .ref (h 10), .int (nI (z + (sg : List Int32).length))])), ((h 9), .inl (k 2, 120, .inl (dd_app bt z sg))), ((h 10), .inl (k 2, 20, .inl a.2.2))] H) ∧ (va_D A [((h 8), .inr (3, [.ref (h 9), .ref (h 10), .int (nI (z + (sg : List Int32).length))])), ((h 9), .inl (k 2, 120, .inl (dd_app bt z sg))), ((h 10), .inl (k 2, 20, .inl a.2.2))]) ∧ (va_S A s.heap H locs)) (g := fun a => F0 m 32 a.1 []) (μ := fun a => n - a.2.1) (fun a H locs hI ih32 => ?_) (ls, 0, dg) ⟨lv_sub hl [0, 1, 3, 2] rfl, hn.1, (fun q hq => absurd hq (Nat.not_lt_zero q)), hP, hD, hS⟩
    obtain ⟨ls, i, dq⟩ := a
    obtain ⟨hl, hin, hdq, hP, hD, hS⟩ := hI
    have hl : lv_has ls 7 [(4, .long (dd_dv i v)), (3, .int (nI i)), (1, .long v), (0, .ref (h 8))] := hl
    have hin : i < n := hin
    have hdq : ∀ q, q < i → dq q = dd_dg (dd_dv q v) := hdq
    have hP : va_P D dd_cl [((h 8), .inr (3, [.ref (h 9), .ref (h 10), .int (nI (z + (sg : List Int32).length))])), ((h 9), .inl (k 2, 120, .inl (dd_app bt z sg))), ((h 10), .inl (k 2, 20, .inl dq))] H := hP
    have hD : va_D A [((h 8), .inr (3, [.ref (h 9), .ref (h 10), .int (nI (z + (sg : List Int32).length))])), ((h 9), .inl (k 2, 120, .inl (dd_app bt z sg))), ((h 10), .inl (k 2, 20, .inl dq))] := hD
    have hS : va_S A s.heap H locs := hS
    refine W.eq (g2 := F0 m 32 ls []) rfl ?_
    refine lv_lload hx hb d_W_write_32 (lv_at hl 0 rfl) ?_
    refine lv_ldc2 (v := 10) hx hb hown (htb _ tb_203) d_W_write_34 ?_
    refine lv_lrem hx hb d_W_write_37 (by decide) ?_
    refine lv_l2i hx hb d_W_write_38 rfl ?_
    refine lv_istore (lv' := [(6, .int (((dd_dv i v) - (dd_dv i v) / 10 * 10).toInt32)), (4, .long (dd_dv i v)), (3, .int (nI i)), (1, .long v), (0, .ref (h 8))]) hx hb d_W_write_39 hl (by decide) rfl (fun ls hl => ?_)
    refine lv_aload_n hx hb d_W_write_41 rfl (lv_at hl 4 rfl) ?_
    refine va_get (D := D) (ci := 3) (v := .ref (h 10)) (C := R_W) (T := F_W) (N := 3) hx hb htb i_W hown hK hP 0 rfl rfl 1 (by decide) (htb _ tb_79) (fun _ h9 => h9) rfl d_W_write_42 ?_
    refine lv_iload_n hx hb d_W_write_45 rfl (lv_at hl 2 rfl) ?_
    refine lv_bipush (v := 48) hx hb d_W_write_46 (by decide) ?_
    refine dd_jn (α := Int32) (P := fun z => z = (if 0 ≤ (((dd_dv i v) - (dd_dv i v) / 10 * 10).toInt32) then (((dd_dv i v) - (dd_dv i v) / 10 * 10).toInt32) else (-(((dd_dv i v) - (dd_dv i v) / 10 * 10).toInt32)))) (g := fun z => F0 m 61 ls [.int z, .int 48, .int (nI i), .ref (h 10)]) (fun z (ez : z = (if 0 ≤ (((dd_dv i v) - (dd_dv i v) / 10 * 10).toInt32) then (((dd_dv i v) - (dd_dv i v) / 10 * 10).toInt32) else (-(((dd_dv i v) - (dd_dv i v) / 10 * 10).toInt32)))) => ?_) (fun jn61 => ?_)
    · subst ez
      refine W.eq (g2 := F0 m 61 ls [.int (if 0 ≤ (((dd_dv i v) - (dd_dv i v) / 10 * 10).toInt32) then (((dd_dv i v) - (dd_dv i v) / 10 * 10).toInt32) else (-(((dd_dv i v) - (dd_dv i v) / 10 * 10).toInt32))), .int 48, .int (nI i), .ref (h 10)]) rfl ?_
      refine lv_iadd hx hb d_W_write_61 ?_
      refine lv_i2b hx hb d_W_write_62 rfl ?_
      refine dd_bast (j := i) (y := (dd_dg (dd_dv i v))) hx hb hK hP hD hS 2 2 rfl rfl rfl (by omega) (by decide) (dd_dgW (dd_dv i v)) d_W_write_63 (fun H locs hP hD hS => ?_)
      have hP : va_P D dd_cl [((h 8), .inr (3, [.ref (h 9), .ref (h 10), .int (nI (z + (sg : List Int32).length))])), ((h 9), .inl (k 2, 120, .inl (dd_app bt z sg))), ((h 10), .inl (k 2, 20, .inl (upd dq i (dd_dg (dd_dv i v)))))] H := hP
      have hD : va_D A [((h 8), .inr (3, [.ref (h 9), .ref (h 10), .int (nI (z + (sg : List Int32).length))])), ((h 9), .inl (k 2, 120, .inl (dd_app bt z sg))), ((h 10), .inl (k 2, 20, .inl (upd dq i (dd_dg (dd_dv i v)))))] := hD
      refine lv_iinc (v := (nI (i + 1))) (lv' := [(3, .int (nI (i + 1))), (6, .int (((dd_dv i v) - (dd_dv i v) / 10 * 10).toInt32)), (4, .long (dd_dv i v)), (1, .long v), (0, .ref (h 8))]) hx hb d_W_write_64 hl (k := 2) rfl (dd_inc i) (by decide) rfl (fun ls hl => ?_)
      refine lv_lload hx hb d_W_write_67 (lv_at hl 2 rfl) ?_
      refine lv_ldc2 (v := 10) hx hb hown (htb _ tb_203) d_W_write_69 ?_
      refine lv_ldiv hx hb d_W_write_72 (by decide) ?_
      refine lv_topl (fun y_1 ey_1 => ?_)
      obtain rfl : y_1 = (dd_dv (i + 1) v) := ey_1.trans rfl
      refine lv_lstore (lv' := [(4, .long (dd_dv (i + 1) v)), (3, .int (nI (i + 1))), (6, .int (((dd_dv i v) - (dd_dv i v) / 10 * 10).toInt32)), (1, .long v), (0, .ref (h 8))]) hx hb d_W_write_73 hl (by decide) rfl (fun ls hl => ?_)
      refine lv_lload hx hb d_W_write_75 (lv_at hl 0 rfl) ?_
      refine lv_lconst (v := 0) hx hb d_W_write_77 (by decide) ?_
      refine dd_lc_eq (tgt := 88) hx hb d_W_write_78 d_W_write_79 (by decide) (fun c_2 => ?_) (fun c_2 => ?_)
      · have hen : i + 1 = n := dd_isN_eq hn hin c_2
        obtain ⟨dn, edn⟩ : ∃ f, f = upd dq i (dd_dg (dd_dv i v)) := ⟨_, rfl⟩
        rw [← edn] at hP hD
        have hdn : ∀ q, q < n → dn q = dd_dg (dd_dv q v) := by rw [edn, ← hen]; exact dd_dqstep hdq
        rw [← List.append_nil sg] at hP hD
        have hP : va_P D dd_cl [((h 8), .inr (3, [.ref (h 9), .ref (h 10), .int (nI (z + ((sg ++ []) : List Int32).length))])), ((h 9), .inl (k 2, 120, .inl (dd_app bt z (sg ++ [])))), ((h 10), .inl (k 2, 20, .inl dn))] H := hP
        have hD : va_D A [((h 8), .inr (3, [.ref (h 9), .ref (h 10), .int (nI (z + ((sg ++ []) : List Int32).length))])), ((h 9), .inl (k 2, 120, .inl (dd_app bt z (sg ++ [])))), ((h 10), .inl (k 2, 20, .inl dn))] := hD
        refine lv_iload_n hx hb d_W_write_88 rfl (lv_at hl 1 rfl) ?_
        refine lv_iconst (v := 1) hx hb d_W_write_89 (by decide) ?_
        refine lv_isub hx hb d_W_write_90 ?_
        refine lv_topi (fun y_3 ey_3 => ?_)
        obtain rfl : y_3 = (nI (n - 0) - 1) := ey_3.trans (by rw [hen]; rfl)
        refine lv_istore (lv' := [(6, .int (nI (n - 0) - 1)), (4, .long (dd_dv (i + 1) v)), (3, .int (nI (i + 1))), (1, .long v), (0, .ref (h 8))]) hx hb d_W_write_91 hl (by decide) rfl (fun ls hl => ?_)
        refine dd_loop (α := Array Slot × Nat) (I := fun a H locs => (lv_has a.1 7 [(6, .int (nI (n - a.2) - 1)), (0, .ref (h 8))]) ∧ (a.2 ≤ n) ∧ (va_P D dd_cl [((h 8), .inr (3, [.ref (h 9), .ref (h 10), .int (nI (z + ((sg ++ dd_dsv v n a.2) : List Int32).length))])), ((h 9), .inl (k 2, 120, .inl (dd_app bt z (sg ++ dd_dsv v n a.2)))), ((h 10), .inl (k 2, 20, .inl dn))] H) ∧ (va_D A [((h 8), .inr (3, [.ref (h 9), .ref (h 10), .int (nI (z + ((sg ++ dd_dsv v n a.2) : List Int32).length))])), ((h 9), .inl (k 2, 120, .inl (dd_app bt z (sg ++ dd_dsv v n a.2)))), ((h 10), .inl (k 2, 20, .inl dn))]) ∧ (va_S A s.heap H locs)) (g := fun a => F0 m 93 a.1 []) (μ := fun a => n - a.2) (fun a H locs hI ih93 => ?_) (ls, 0) ⟨lv_sub hl [0, 4] rfl, Nat.zero_le n, hP, hD, hS⟩
        obtain ⟨ls, cq⟩ := a
        obtain ⟨hl, hcq, hP, hD, hS⟩ := hI
        have hl : lv_has ls 7 [(6, .int (nI (n - cq) - 1)), (0, .ref (h 8))] := hl
        have hcq : cq ≤ n := hcq
        have hP : va_P D dd_cl [((h 8), .inr (3, [.ref (h 9), .ref (h 10), .int (nI (z + ((sg ++ dd_dsv v n cq) : List Int32).length))])), ((h 9), .inl (k 2, 120, .inl (dd_app bt z (sg ++ dd_dsv v n cq)))), ((h 10), .inl (k 2, 20, .inl dn))] H := hP
        have hD : va_D A [((h 8), .inr (3, [.ref (h 9), .ref (h 10), .int (nI (z + ((sg ++ dd_dsv v n cq) : List Int32).length))])), ((h 9), .inl (k 2, 120, .inl (dd_app bt z (sg ++ dd_dsv v n cq)))), ((h 10), .inl (k 2, 20, .inl dn))] := hD
        have hS : va_S A s.heap H locs := hS
        refine W.eq (g2 := F0 m 93 ls []) rfl ?_
        refine lv_iload hx hb d_W_write_93 (lv_at hl 0 rfl) ?_
        refine lv_if_lt (tgt := 130) hx hb d_W_write_95 (by decide) (fun c_4 => ?_) (fun c_4 => ?_)
        · have ecq : cq = n := dd_neg1 hn19 hcq c_4
          rw [ecq, esg] at hP hD
          exact W.vret hx hb hr (fun t ht hW => ⟨⟨(dd_app bt z (dd_txt v n), dn, nI (z + (dd_txt v n).length)), rfl, ⟨rfl, rfl⟩, by rw [ht]; exact hP, hD⟩, hS.F ht⟩) hS.2.2 d_W_write_130
        · have hlt2 : cq < n := dd_nneg1 hn19 hcq c_4
          have hln := dd_len_sd sg v n cq
          refine lv_aload_n hx hb d_W_write_98 rfl (lv_at hl 1 rfl) ?_
          refine va_get (D := D) (ci := 3) (v := .ref (h 9)) (C := R_W) (T := F_W) (N := 3) hx hb htb i_W hown hK hP 0 rfl rfl 0 (by decide) (htb _ tb_77) (fun _ h9 => h9) rfl d_W_write_99 ?_
          refine lv_aload_n hx hb d_W_write_102 rfl (lv_at hl 1 rfl) ?_
          refine va_get (D := D) (ci := 3) (v := .int (nI (z + ((sg ++ dd_dsv v n cq) : List Int32).length))) (C := R_W) (T := F_W) (N := 3) hx hb htb i_W hown hK hP 0 rfl rfl 2 (by decide) (htb _ tb_80) (fun _ h9 => h9) rfl d_W_write_103 ?_
          refine lv_aload_n hx hb d_W_write_106 rfl (lv_at hl 1 rfl) ?_
          refine va_get (D := D) (ci := 3) (v := .ref (h 10)) (C := R_W) (T := F_W) (N := 3) hx hb htb i_W hown hK hP 0 rfl rfl 1 (by decide) (htb _ tb_79) (fun _ h9 => h9) rfl d_W_write_107 ?_
          refine lv_iload hx hb d_W_write_110 (lv_at hl 0 rfl) ?_
          refine dd_bald (j := (n - 1 - cq)) hx hb hK hP 2 2 rfl rfl (dd_ix hlt2) (by omega) (by decide) d_W_write_112 ?_
          refine dd_bast (j := (z + (sg ++ dd_dsv v n cq).length)) (y := (dd_dg (dd_dv (n - 1 - cq) v))) hx hb hK hP hD hS 1 2 rfl rfl rfl (by omega) (by decide) (by rw [hdn _ (by omega)]; exact dd_dg_nar _) d_W_write_113 (fun H locs hP hD hS => ?_)
          have hP : va_P D dd_cl [((h 8), .inr (3, [.ref (h 9), .ref (h 10), .int (nI (z + ((sg ++ dd_dsv v n cq) : List Int32).length))])), ((h 9), .inl (k 2, 120, .inl (upd (dd_app bt z (sg ++ dd_dsv v n cq)) (z + (sg ++ dd_dsv v n cq).length) (dd_dg (dd_dv (n - 1 - cq) v))))), ((h 10), .inl (k 2, 20, .inl dn))] H := hP
          have hD : va_D A [((h 8), .inr (3, [.ref (h 9), .ref (h 10), .int (nI (z + ((sg ++ dd_dsv v n cq) : List Int32).length))])), ((h 9), .inl (k 2, 120, .inl (upd (dd_app bt z (sg ++ dd_dsv v n cq)) (z + (sg ++ dd_dsv v n cq).length) (dd_dg (dd_dv (n - 1 - cq) v))))), ((h 10), .inl (k 2, 20, .inl dn))] := hD
          refine lv_aload_n hx hb d_W_write_114 rfl (lv_at hl 1 rfl) ?_
          refine lv_dup hx hb d_W_write_115 rfl ?_
          refine va_get (D := D) (ci := 3) (v := .int (nI (z + ((sg ++ dd_dsv v n cq) : List Int32).length))) (C := R_W) (T := F_W) (N := 3) hx hb htb i_W hown hK hP 0 rfl rfl 2 (by decide) (htb _ tb_80) (fun _ h9 => h9) rfl d_W_write_116 ?_
          refine lv_iconst (v := 1) hx hb d_W_write_119 (by decide) ?_
          refine lv_iadd hx hb d_W_write_120 ?_
          refine lv_topi (fun y_5 ey_5 => ?_)
          obtain rfl : y_5 = (nI (z + (sg ++ dd_dsv v n cq).length + 1)) := ey_5.trans (nI_1 _)
          refine va_put (D := D) (ci := 3) (v := .int (nI (z + (sg ++ dd_dsv v n cq).length + 1))) (ty := .int) (C := R_W) (T := F_W) (N := 3) hx hb htb i_W t_W t_W_ok n_W hown hK hP hD hS 0 rfl rfl 2 (by decide) (htb _ tb_80) (fun _ h9 => h9) rfl (by decide +kernel) rfl rfl (Nat.le_of_ble_eq_true rfl) d_W_write_121 (fun H locs hP hD hS => ?_)
          have hP : va_P D dd_cl [((h 8), .inr (3, [.ref (h 9), .ref (h 10), .int (nI (z + (sg ++ dd_dsv v n cq).length + 1))])), ((h 9), .inl (k 2, 120, .inl (upd (dd_app bt z (sg ++ dd_dsv v n cq)) (z + (sg ++ dd_dsv v n cq).length) (dd_dg (dd_dv (n - 1 - cq) v))))), ((h 10), .inl (k 2, 20, .inl dn))] H := hP
          have hD : va_D A [((h 8), .inr (3, [.ref (h 9), .ref (h 10), .int (nI (z + (sg ++ dd_dsv v n cq).length + 1))])), ((h 9), .inl (k 2, 120, .inl (upd (dd_app bt z (sg ++ dd_dsv v n cq)) (z + (sg ++ dd_dsv v n cq).length) (dd_dg (dd_dv (n - 1 - cq) v))))), ((h 10), .inl (k 2, 20, .inl dn))] := hD
          refine lv_iinc (v := (nI (n - (cq + 1)) - 1)) (lv' := [(6, .int (nI (n - (cq + 1)) - 1)), (0, .ref (h 8))]) hx hb d_W_write_124 hl (k := 0) rfl (dd_decx hlt2) (by decide) rfl (fun ls hl => ?_)
          refine lv_goto (tgt := 93) hx hb d_W_write_127 (by decide) ?_
          rw [dd_app_ds, dd_len_ds] at hP hD
          exact ih93 (ls, (cq + 1)) _ _ ⟨lv_sub hl [0, 1] rfl, hlt2, hP, hD, hS⟩ (by dsimp only; omega)
      · have hlt : i + 1 < n := dd_isN_lt hn hin c_2
        refine lv_iload_n hx hb d_W_write_82 rfl (lv_at hl 1 rfl) ?_
        refine lv_bipush (v := 20) hx hb d_W_write_83 (by decide) ?_
        refine lv_icmp_lt (tgt := 32) hx hb d_W_write_85 (by decide) (fun c_6 => ?_) (fun c_6 => ?_)
        · exact ih32 (ls, (i + 1), (upd dq i (dd_dg (dd_dv i v)))) _ _ ⟨lv_sub hl [0, 1, 3, 4] rfl, hlt, dd_dqstep hdq, hP, hD, hS⟩ (by dsimp only; omega)
        · exact absurd (nI_lt (a := i + 1) (b := 20) (by omega) (by decide)) c_6
    refine lv_iload hx hb d_W_write_48 (lv_at hl 0 rfl) ?_
    refine lv_if_ge (tgt := 59) hx hb d_W_write_50 (by decide) (fun c_7 => ?_) (fun c_7 => ?_)
    · refine lv_iload hx hb d_W_write_59 (lv_at hl 0 rfl) ?_
      exact jn61 _ ((if_pos c_7).symm)
    · refine lv_iload hx hb d_W_write_53 (lv_at hl 0 rfl) ?_
      refine lv_ineg hx hb d_W_write_55 ?_
      refine lv_goto (tgt := 61) hx hb d_W_write_56 (by decide) ?_
      exact jn61 _ ((if_neg c_7).symm)
  refine lv_lload_n hx hb d_W_write_0 rfl (lv_at hl 1 rfl) ?_
  refine lv_lconst (v := 0) hx hb d_W_write_1 (by decide) ?_
  refine dd_lc_ge (tgt := 27) hx hb d_W_write_2 d_W_write_3 (by decide) (fun c_8 => ?_) (fun c_8 => ?_)
  · exact jn27 [] _ _ ⟨(if_pos c_8).symm, hP, hD, hS⟩
  · refine lv_aload_n hx hb d_W_write_6 rfl (lv_at hl 0 rfl) ?_
    refine va_get (D := D) (ci := 3) (v := .ref (h 9)) (C := R_W) (T := F_W) (N := 3) hx hb htb i_W hown hK hP 0 rfl rfl 0 (by decide) (htb _ tb_77) (fun _ h9 => h9) rfl d_W_write_7 ?_
    refine lv_aload_n hx hb d_W_write_10 rfl (lv_at hl 0 rfl) ?_
    refine va_get (D := D) (ci := 3) (v := .int (nI z)) (C := R_W) (T := F_W) (N := 3) hx hb htb i_W hown hK hP 0 rfl rfl 2 (by decide) (htb _ tb_80) (fun _ h9 => h9) rfl d_W_write_11 ?_
    refine lv_bipush (v := 45) hx hb d_W_write_14 (by decide) ?_
    refine dd_bast (j := z) (y := 45) hx hb hK hP hD hS 1 2 rfl rfl rfl (by omega) (by decide) (by decide) d_W_write_16 (fun H locs hP hD hS => ?_)
    have hP : va_P D dd_cl [((h 8), .inr (3, [.ref (h 9), .ref (h 10), .int (nI z)])), ((h 9), .inl (k 2, 120, .inl (upd bt z 45))), ((h 10), .inl (k 2, 20, .inl dg))] H := hP
    have hD : va_D A [((h 8), .inr (3, [.ref (h 9), .ref (h 10), .int (nI z)])), ((h 9), .inl (k 2, 120, .inl (upd bt z 45))), ((h 10), .inl (k 2, 20, .inl dg))] := hD
    refine lv_aload_n hx hb d_W_write_17 rfl (lv_at hl 0 rfl) ?_
    refine lv_dup hx hb d_W_write_18 rfl ?_
    refine va_get (D := D) (ci := 3) (v := .int (nI z)) (C := R_W) (T := F_W) (N := 3) hx hb htb i_W hown hK hP 0 rfl rfl 2 (by decide) (htb _ tb_80) (fun _ h9 => h9) rfl d_W_write_19 ?_
    refine lv_iconst (v := 1) hx hb d_W_write_22 (by decide) ?_
    refine lv_iadd hx hb d_W_write_23 ?_
    refine lv_topi (fun y_9 ey_9 => ?_)
    obtain rfl : y_9 = (nI (z + 1)) := ey_9.trans (nI_1 z)
    refine va_put (D := D) (ci := 3) (v := .int (nI (z + 1))) (ty := .int) (C := R_W) (T := F_W) (N := 3) hx hb htb i_W t_W t_W_ok n_W hown hK hP hD hS 0 rfl rfl 2 (by decide) (htb _ tb_80) (fun _ h9 => h9) rfl (by decide +kernel) rfl rfl (Nat.le_of_ble_eq_true rfl) d_W_write_24 (fun H locs hP hD hS => ?_)
    have hP : va_P D dd_cl [((h 8), .inr (3, [.ref (h 9), .ref (h 10), .int (nI (z + 1))])), ((h 9), .inl (k 2, 120, .inl (upd bt z 45))), ((h 10), .inl (k 2, 20, .inl dg))] H := hP
    have hD : va_D A [((h 8), .inr (3, [.ref (h 9), .ref (h 10), .int (nI (z + 1))])), ((h 9), .inl (k 2, 120, .inl (upd bt z 45))), ((h 10), .inl (k 2, 20, .inl dg))] := hD
    exact jn27 [45] _ _ ⟨(if_neg c_8).symm, hP, hD, hS⟩
end
section
/-! what the model's methods compute -/
def dd_rowM (op : Nat → Int64) (mf : Nat → Int32) (mb : Nat → Int64) (n : Nat) (p what : Int32) : Int64 := if dd_isP p = 0 then 0 else if what < 0 then 0 else if what ≤ 4 then dd_rwM op mf mb n p.toNatClampNeg what else 0
def dd_tdM (op : Nat → Int64) (mf : Nat → Int32) (mb : Nat → Int64) (n : Nat) (p : Int32) : Int32 := if dd_isP p = 0 then 0 else if ¬ op p.toNatClampNeg = 0 then 1 else if dd_rowM op mf mb n p 4 ≤ 0 then 0 else 1
def dd_nwM (op : Nat → Int64) (mf : Nat → Int32) (mb : Nat → Int64) (n q : Nat) : Int64 := op q - dd_mW mf mb (nI q) n + dd_mC mf mb (nI q) n
def dd_bgM (op : Nat → Int64) (mf : Nat → Int32) (mb : Nat → Int64) (n i : Nat) : Nat → Int64 := fun q => if q < i then dd_nwM op mf mb n q else op q
theorem dd_isP_of {p : Int32} (h : ¬ dd_isP p = 0) : ∃ j : Nat, j < 200 ∧ p = nI j := by
  unfold dd_isP at h
  by_cases h1 : p < 0
  · rw [if_pos h1] at h; exact absurd rfl h
  · rw [if_neg h1] at h
    by_cases h2 : 200 ≤ p
    · rw [if_pos h2] at h; exact absurd rfl h
    · rcases pk_ix p (n := 200) (by decide) with q | q | q
      · exact absurd q h1
      · exact absurd q h2
      · exact q
theorem dd_isP_nI {j : Nat} (h : j < 200) : dd_isP (nI j) = 1 := by
  unfold dd_isP
  rw [if_neg (nI_pos (by omega)), if_neg (show ¬ (200 : Int32) ≤ nI j from nI_ge (a := j) (b := 200) h (by decide))]
theorem dd_bgM0 (op : Nat → Int64) (mf : Nat → Int32) (mb : Nat → Int64) (n : Nat) : dd_bgM op mf mb n 0 = op := by
  funext q
  show (if q < 0 then _ else op q) = op q
  rw [if_neg (Nat.not_lt_zero q)]
theorem dd_bgMs (op : Nat → Int64) (mf : Nat → Int32) (mb : Nat → Int64) (n i : Nat) : vp_updL (dd_bgM op mf mb n i) i (dd_nwM op mf mb n i) = dd_bgM op mf mb n (i + 1) := dd_updL_if (g := dd_nwM op mf mb n)
theorem dd_rowbg (op : Nat → Int64) (mf : Nat → Int32) (mb : Nat → Int64) (n : Nat) {i : Nat} (hi : i < 200) : dd_rowM (dd_bgM op mf mb n i) mf mb n (nI i) 3 = dd_nwM op mf mb n i := by
  unfold dd_rowM
  rw [if_neg (by rw [dd_isP_nI hi]; decide), if_neg (by decide), if_pos (by decide), nI_clamp (by omega)]
  unfold dd_rwM
  rw [if_pos (by decide), if_pos (by decide), if_pos (by decide), if_neg (by decide)]
  unfold dd_nwM dd_bgM
  rw [if_neg (by omega)]
def dd_psOp (tk : Int64) (op : Nat → Int64) (mf : Nat → Int32) (mb : Nat → Int64) (n : Nat) : Nat → Int64 := if dd_tkM (tk + 1) = 0 then dd_bgM op mf mb n 200 else op
def dd_psMv (tk : Int64) (n : Nat) : Nat := if dd_tkM (tk + 1) = 0 then 0 else n
theorem dd_psMv_le (tk : Int64) (n : Nat) : dd_psMv tk n ≤ n := by
  unfold dd_psMv
  split <;> omega
abbrev dd_IM : Type := Int64 × (Nat → Int64) × Nat × Int32
def dd_itM (mf : Nat → Int32) (mb : Nat → Int64) (tk : Int64) (op : Nat → Int64) (n : Nat) : Nat → dd_IM
  | 0 => (tk, op, n, 0)
  | i + 1 => ((dd_itM mf mb tk op n i).1 + 1, dd_psOp (dd_itM mf mb tk op n i).1 (dd_itM mf mb tk op n i).2.1 mf mb (dd_itM mf mb tk op n i).2.2.1, dd_psMv (dd_itM mf mb tk op n i).1 (dd_itM mf mb tk op n i).2.2.1, (dd_itM mf mb tk op n i).2.2.2 + (dd_pv (dd_tkM ((dd_itM mf mb tk op n i).1 + 1)) &&& 1))
theorem dd_itM_le (mf : Nat → Int32) (mb : Nat → Int64) (tk : Int64) (op : Nat → Int64) (n i : Nat) : (dd_itM mf mb tk op n i).2.2.1 ≤ n := by
  induction i with
  | zero => exact Nat.le_refl n
  | succ i ih => exact Nat.le_trans (dd_psMv_le _ _) ih
def dd_wk (kind : Int32) : Int32 := if kind < 3 then (if ¬ kind = 13 then 0 else 1) else if kind ≤ 6 then 1 else if ¬ kind = 13 then 0 else 1
def dd_gd (kind : Int32) : Int32 := if kind < 0 then 0 else if 14 < kind then 0 else 1
def dd_gd2 (ph kind : Int32) : Int32 := if dd_gd kind = 0 then 0 else if ¬ ph = 0 then (if ¬ ph = 4 then 1 else if ¬ dd_wk kind = 0 then 0 else if kind = 7 then 0 else if kind = 8 then 0 else 1) else if ¬ dd_wk kind = 0 then 0 else (if ¬ ph = 4 then 1 else if ¬ dd_wk kind = 0 then 0 else if kind = 7 then 0 else if kind = 8 then 0 else 1)
def dd_mayM (ph kind prio money : Int32) : Int32 := if dd_gd2 ph kind = 0 then 0 else if ¬ kind = 5 then 1 else if ¬ ph = 2 then (if ¬ ph = 3 then 1 else if money = 0 then 0 else 1) else if 4 < prio then 0 else (if ¬ ph = 3 then 1 else if money = 0 then 0 else 1)
/-- the first tick behind this one in another phase -/
def dd_TP (tick : Int32) (n : Nat) : Prop := 1 ≤ n ∧ n ≤ 1000 ∧ (¬ dd_ph ((tick + nI n) - (tick + nI n) / 1000 * 1000) = dd_ph tick) ∧ ∀ i, 1 ≤ i → i < n → dd_ph ((tick + nI i) - (tick + nI i) / 1000 * 1000) = dd_ph tick
def dd_lkM (tk : Int64) (n1 n2 : Nat) (what : Int32) : Int32 := if 3 ≤ what then (if what = 3 then nI n1 else if what ≤ 4 then nI n2 else -1) else if ¬ what = 0 then (if ¬ what = 1 then (if ¬ what = 2 then -1 else dd_ph (dd_tkM tk)) else dd_tkM tk) else (tk / 1000).toInt32
def dd_okM (op : Nat → Int64) (mf : Nat → Int32) (mb : Nat → Int64) (n : Nat) (p : Int32) (v : Int64) : Int32 := if dd_isP p = 0 then 0 else if v < -10000000000000000 then 0 else if 10000000000000000 < v then 0 else if dd_inW (dd_rowM op mf mb n p 3 + v) 9000000000000000000 = 0 then 0 else if ¬ dd_inW (if 0 ≤ v then dd_rowM op mf mb n p 2 + v else dd_rowM op mf mb n p 1 - v) 9000000000000000000 = 0 then 1 else 0
def dd_atM (tx : Nat → Int32) (z : Nat) (i : Int32) : Int32 := if i < 0 then -1 else if nI z ≤ i then -1 else tx i.toNatClampNeg
theorem dd_selfI {i : Int32} (h : ¬ i < 0) : i = nI i.toNatClampNeg := by
  obtain ⟨j, hj, rfl⟩ := nI_of h
  rw [nI_clamp hj]
theorem dd_at_lt {i : Int32} {z : Nat} (hz : z ≤ 120) (h : ¬ i < 0) (h2 : ¬ nI z ≤ i) : i.toNatClampNeg < z := by
  obtain ⟨j, hj, rfl⟩ := nI_of h
  rw [nI_clamp hj]
  rcases Nat.lt_or_ge j z with q | q
  · exact q
  · exact absurd (nI_le q hj) h2
/-- the five numbers of a row, blanks between them -/
def dd_rt (g : Nat → List Int32) : Nat → List Int32
  | 0 => []
  | q + 1 => dd_rt g q ++ ((if q = 0 then [] else [32]) ++ g q)
theorem dd_rt_len {g : Nat → List Int32} {m : Nat} (hg : ∀ q, q < m → (g q).length ≤ 20) : ∀ q, q ≤ m → (dd_rt g q).length ≤ 21 * q := by
  intro q
  induction q with
  | zero => intro _; exact Nat.le_refl 0
  | succ q ih =>
    intro h
    have h1 := ih (by omega)
    have h2 := hg q (by omega)
    show (dd_rt g q ++ ((if q = 0 then [] else [32]) ++ g q)).length ≤ _
    rw [List.length_append, List.length_append]
    have h3 : (if q = 0 then ([] : List Int32) else [32]).length ≤ 1 := by split <;> simp
    omega
theorem dd_le_nI {a b : Nat} (ha : a < 2 ^ 31) (hb : b < 2 ^ 31) (h : nI a ≤ nI b) : a ≤ b := (nI_leI ha hb).mp h
theorem dd_nle_nI {a b : Nat} (hb : b < 2 ^ 31) (h : ¬ nI a ≤ nI b) : b < a := by
  rcases Nat.lt_or_ge b a with q | q
  · exact q
  · exact absurd (nI_le q hb) h
theorem dd_mW_skip {mf : Nat → Int32} {mb : Nat → Int64} {p : Int32} {i : Nat} (h : ¬ mf i = p) : dd_mW mf mb p (i + 1) = dd_mW mf mb p i := by rw [dd_mW, if_pos h]
theorem dd_mC_skip {mf : Nat → Int32} {mb : Nat → Int64} {p : Int32} {i : Nat} (h : ¬ mf i = p) : dd_mC mf mb p (i + 1) = dd_mC mf mb p i := by rw [dd_mC, if_pos h]
theorem dd_mN_skip {mf : Nat → Int32} {p : Int32} {i : Nat} (h : ¬ mf i = p) : dd_mN mf p (i + 1) = dd_mN mf p i := by rw [dd_mN, if_pos h]
theorem dd_mW_take {mf : Nat → Int32} {mb : Nat → Int64} {p : Int32} {i : Nat} (h : mf i = p) : dd_mW mf mb p (i + 1) = (if 0 ≤ (mb i) then (dd_mW mf mb p i) else ((dd_mW mf mb p i) - (mb i))) := by rw [dd_mW, if_neg (not_not_intro h)]
theorem dd_mC_take {mf : Nat → Int32} {mb : Nat → Int64} {p : Int32} {i : Nat} (h : mf i = p) : dd_mC mf mb p (i + 1) = (if (mb i) ≤ 0 then (dd_mC mf mb p i) else ((dd_mC mf mb p i) + (mb i))) := by rw [dd_mC, if_neg (not_not_intro h)]
theorem dd_mN_take {mf : Nat → Int32} {p : Int32} {i : Nat} (h : mf i = p) : dd_mN mf p (i + 1) = ((dd_mN mf p i) + 1) := by rw [dd_mN, if_neg (not_not_intro h)]
end
section
/-! contracts: the model, reads -/
set_option maxHeartbeats 4000000 in
set_option maxRecDepth 100000 in
theorem c_M_tick (l : Launch) (D : va_G) (k : Nat → ClassId) (h : Nat → Nat) (tk : Int64) (op : Nat → Int64) (mv : Nat) (mf : Nat → Int32) (mb : Nat → Int64) (wr : Int32) (tx : Nat → Int32)  : Met l y_M_tick w_M_tick ({ frames := 0, cells := 0, slots := 0, locals := 0 }) (dd_PR D k (dd_wM k h (tk, op, nI mv, mf, mb, wr, tx)) [.ref (h 12)]) (vp_Si (fun r => r = dd_tkM tk)) 0 0 (fun _ => False) := by
  refine Met.ofW (cc := b_M_tick) (maxL := 1) (ret := (some FieldType.int)) (by decide) rfl ?_
  intro p e s m args below meth c s₁ B hml hv
  obtain ⟨rfl, hP, hK, hN⟩ := hv
  have hx := B.exec
  have hb := B.bytes
  have hr := B.returns
  have htb := dd_tb (atoms_spec (ws := w_M_tick) B.pre)
  have hown : s.vm.findClass "DayDeskModel" = some m.cls := findClass_of_methodNamed B.named
  have hlocks := B.notSynchronized
  have hS : va_S (fun _ => False) s.heap s.heap [] := va_S.rf
  have hP : va_P D dd_cl [((h 12), .inr (4, [.long tk, .ref (h 13), .int (nI mv), .ref (h 14), .ref (h 15), .int wr, .ref (h 16)])), ((h 13), .inl (k 0, 200, .inr (.inl op))), ((h 14), .inl (k 1, 520, .inl mf)), ((h 15), .inl (k 0, 520, .inr (.inl mb))), ((h 16), .inl (k 1, 120, .inl tx))] s.heap := hP
  have hl := lv_entry ([.ref (h 12)]) (n := 1) (Nat.le_of_ble_eq_true rfl)
  rw [lg_entry_eq]
  generalize (lg_sl ([.ref (h 12)]) ++ List.replicate (1 - (lg_sl ([.ref (h 12)])).length) Slot.unset).toArray = ls at hl ⊢
  have hl : lv_has ls 1 [(0, .ref (h 12))] := hl
  refine lv_aload_n hx hb d_M_tick_0 rfl (lv_at hl 0 rfl) ?_
  refine va_get (D := D) (ci := 4) (v := .long tk) (C := R_M) (T := F_M) (N := 7) hx hb htb i_M hown hK hP 0 rfl rfl 0 (by decide) (htb _ tb_214) (fun _ h9 => h9) rfl d_M_tick_1 ?_
  refine lv_ldc2 (v := 1000) hx hb hown (htb _ tb_244) d_M_tick_4 ?_
  refine lv_lrem hx hb d_M_tick_7 (by decide) ?_
  refine lv_l2i hx hb d_M_tick_8 rfl ?_
  exact W.iret (v := ((tk - tk / 1000 * 1000).toInt32)) hx hb hr (fun t ht hW => ⟨((tk - tk / 1000 * 1000).toInt32), rfl, rfl, ht⟩) (fun q h => by cases h) d_M_tick_9
set_option maxHeartbeats 4000000 in
set_option maxRecDepth 100000 in
theorem c_M_row (l : Launch) (D : va_G) (k : Nat → ClassId) (h : Nat → Nat) (tk : Int64) (op : Nat → Int64) (mv : Nat) (mf : Nat → Int32) (mb : Nat → Int64) (wr : Int32) (tx : Nat → Int32) (hmv : mv ≤ 520) (q what : Int32) : Met l y_M_row w_M_row ({ frames := 1, cells := 0, slots := 0, locals := 20 }) (dd_PR D k (dd_wM k h (tk, op, nI mv, mf, mb, wr, tx)) [.ref (h 12), .int q, .int what]) (vp_Sl (fun r => r = dd_rowM op mf mb mv q what)) 0 0 (fun _ => False) := by
  refine Met.ofW (cc := b_M_row) (maxL := 10) (ret := (some FieldType.long)) (by decide) rfl ?_
  intro p e s m args below meth c s₁ B hml hv
  obtain ⟨rfl, hP, hK, hN⟩ := hv
  have hx := B.exec
  have hb := B.bytes
  have hr := B.returns
  have htb := dd_tb (atoms_spec (ws := w_M_row) B.pre)
  have hown : s.vm.findClass "DayDeskModel" = some m.cls := findClass_of_methodNamed B.named
  have hlocks := B.notSynchronized
  have hS : va_S (fun _ => False) s.heap s.heap [] := va_S.rf
  have hP : va_P D dd_cl [((h 12), .inr (4, [.long tk, .ref (h 13), .int (nI mv), .ref (h 14), .ref (h 15), .int wr, .ref (h 16)])), ((h 13), .inl (k 0, 200, .inr (.inl op))), ((h 14), .inl (k 1, 520, .inl mf)), ((h 15), .inl (k 0, 520, .inr (.inl mb))), ((h 16), .inl (k 1, 120, .inl tx))] s.heap := hP
  have hl := lv_entry ([.ref (h 12), .int q, .int what]) (n := 10) (Nat.le_of_ble_eq_true rfl)
  rw [lg_entry_eq]
  generalize (lg_sl ([.ref (h 12), .int q, .int what]) ++ List.replicate (10 - (lg_sl ([.ref (h 12), .int q, .int what])).length) Slot.unset).toArray = ls at hl ⊢
  have hl : lv_has ls 10 [(0, .ref (h 12)), (1, .int q), (2, .int what)] := hl
  refine lv_iload_n hx hb d_M_row_0 rfl (lv_at hl 1 rfl) ?_
  refine vp_callSi (va_Run.run (va_runS (As := [.int q]) (rest := []) ⟨hx, hb, hml, hown, htb⟩ (c_M_isPosition l q) (va_cwS 1 htb (dd_gS tb_253 tb_254 tb_7 tb_255) rfl rfl rfl hd_M_isPosition.2 ⟨Nat.le_of_ble_eq_true rfl, Nat.le_of_ble_eq_true rfl⟩) ⟨dd_PS.bl, dd_PS.of⟩ rfl rfl hl.1 rfl (lv_room (Nat.le_of_ble_eq_true rfl)) d_M_row_1 ⟨Nat.le_of_ble_eq_true rfl, Nat.le_of_ble_eq_true rfl⟩)) (fun r_1 er_1 => ?_)
  subst er_1
  refine lv_if_eq (tgt := 16) hx hb d_M_row_4 (by decide) (fun c_2 => ?_) (fun c_2 => ?_)
  · refine lv_lconst (v := 0) hx hb d_M_row_16 (by decide) ?_
    exact W.lret (v := 0) hx hb hr (fun t ht hW => ⟨0, rfl, by unfold dd_rowM; rw [if_pos c_2], ht⟩) (fun q h => by cases h) d_M_row_17
  · refine lv_iload_n hx hb d_M_row_7 rfl (lv_at hl 2 rfl) ?_
    refine lv_if_lt (tgt := 16) hx hb d_M_row_8 (by decide) (fun c_3 => ?_) (fun c_3 => ?_)
    · refine lv_lconst (v := 0) hx hb d_M_row_16 (by decide) ?_
      exact W.lret (v := 0) hx hb hr (fun t ht hW => ⟨0, rfl, by unfold dd_rowM; rw [if_neg c_2, if_pos c_3], ht⟩) (fun q h => by cases h) d_M_row_17
    · refine lv_iload_n hx hb d_M_row_11 rfl (lv_at hl 2 rfl) ?_
      refine lv_iconst (v := 4) hx hb d_M_row_12 (by decide) ?_
      refine lv_icmp_le (tgt := 18) hx hb d_M_row_13 (by decide) (fun c_4 => ?_) (fun c_4 => ?_)
      · obtain ⟨j, hj, rfl⟩ := dd_isP_of c_2
        refine lv_lconst (v := 0) hx hb d_M_row_18 (by decide) ?_
        refine lv_lstore_n (lv' := [(3, .long 0), (0, .ref (h 12)), (1, .int (nI j)), (2, .int what)]) hx hb d_M_row_19 rfl hl (by decide) rfl (fun ls hl => ?_)
        refine lv_lconst (v := 0) hx hb d_M_row_20 (by decide) ?_
        refine lv_lstore (lv' := [(5, .long 0), (3, .long 0), (0, .ref (h 12)), (1, .int (nI j)), (2, .int what)]) hx hb d_M_row_21 hl (by decide) rfl (fun ls hl => ?_)
        refine lv_lconst (v := 0) hx hb d_M_row_23 (by decide) ?_
        refine lv_lstore (lv' := [(7, .long 0), (5, .long 0), (3, .long 0), (0, .ref (h 12)), (1, .int (nI j)), (2, .int what)]) hx hb d_M_row_24 hl (by decide) rfl (fun ls hl => ?_)
        refine lv_iconst (v := 0) hx hb d_M_row_26 (by decide) ?_
        refine lv_istore (lv' := [(9, .int 0), (7, .long 0), (5, .long 0), (3, .long 0), (0, .ref (h 12)), (1, .int (nI j)), (2, .int what)]) hx hb d_M_row_27 hl (by decide) rfl (fun ls hl => ?_)
        refine dd_loop (α := Array Slot × Nat) (I := fun a H locs => (lv_has a.1 10 [(9, .int (nI a.2)), (7, .long (dd_mN mf (nI j) a.2)), (5, .long (dd_mC mf mb (nI j) a.2)), (3, .long (dd_mW mf mb (nI j) a.2)), (2, .int what), (1, .int (nI j)), (0, .ref (h 12))]) ∧ (a.2 ≤ mv) ∧ (H = s.heap) ∧ (locs = [])) (g := fun a => F0 m 29 a.1 []) (μ := fun a => mv - a.2) (fun a H locs hI ih29 => ?_) (ls, 0) ⟨lv_sub hl [0, 1, 2, 3, 6, 5, 4] rfl, Nat.zero_le mv, rfl, rfl⟩
        obtain ⟨ls, i⟩ := a
        obtain ⟨hl, hi, rfl, rfl⟩ := hI
        have hl : lv_has ls 10 [(9, .int (nI i)), (7, .long (dd_mN mf (nI j) i)), (5, .long (dd_mC mf mb (nI j) i)), (3, .long (dd_mW mf mb (nI j) i)), (2, .int what), (1, .int (nI j)), (0, .ref (h 12))] := hl
        have hi : i ≤ mv := hi
        refine W.eq (g2 := F0 m 29 ls []) rfl ?_
        refine lv_iload hx hb d_M_row_29 (lv_at hl 0 rfl) ?_
        refine lv_aload_n hx hb d_M_row_31 rfl (lv_at hl 6 rfl) ?_
        refine va_get (D := D) (ci := 4) (v := .int (nI mv)) (C := R_M) (T := F_M) (N := 7) hx hb htb i_M hown hK hP 0 rfl rfl 2 (by decide) (htb _ tb_216) (fun _ h9 => h9) rfl d_M_row_32 ?_
        refine lv_icmp_ge (tgt := 116) hx hb d_M_row_35 (by decide) (fun c_5 => ?_) (fun c_5 => ?_)
        · have ei : i = mv := Nat.le_antisymm hi (dd_le_nI (by omega) (by omega) c_5)
          rw [ei] at hl
          refine lv_iload_n hx hb d_M_row_116 rfl (lv_at hl 4 rfl) ?_
          refine lv_if_ne (tgt := 129) hx hb d_M_row_117 (by decide) (fun c_6 => ?_) (fun c_6 => ?_)
          · refine lv_iload_n hx hb d_M_row_129 rfl (lv_at hl 4 rfl) ?_
            refine lv_iconst (v := 1) hx hb d_M_row_130 (by decide) ?_
            refine lv_icmp_ne (tgt := 138) hx hb d_M_row_131 (by decide) (fun c_7 => ?_) (fun c_7 => ?_)
            · refine lv_iload_n hx hb d_M_row_138 rfl (lv_at hl 4 rfl) ?_
              refine lv_iconst (v := 2) hx hb d_M_row_139 (by decide) ?_
              refine lv_icmp_ne (tgt := 148) hx hb d_M_row_140 (by decide) (fun c_8 => ?_) (fun c_8 => ?_)
              · refine lv_iload_n hx hb d_M_row_148 rfl (lv_at hl 4 rfl) ?_
                refine lv_iconst (v := 3) hx hb d_M_row_149 (by decide) ?_
                refine lv_icmp_ne (tgt := 167) hx hb d_M_row_150 (by decide) (fun c_9 => ?_) (fun c_9 => ?_)
                · refine lv_lload hx hb d_M_row_167 (lv_at hl 1 rfl) ?_
                  exact W.lret (v := (dd_mN mf (nI j) mv)) hx hb hr (fun t ht hW => ⟨(dd_mN mf (nI j) mv), rfl, by unfold dd_rowM; rw [if_neg c_2, if_neg c_3, if_pos c_4, nI_clamp (by omega)]; unfold dd_rwM; rw [if_pos c_6, if_pos c_7, if_pos c_8, if_pos c_9], ht⟩) (fun q h => by cases h) d_M_row_169
                · refine lv_aload_n hx hb d_M_row_153 rfl (lv_at hl 6 rfl) ?_
                  refine va_get (D := D) (ci := 4) (v := .ref (h 13)) (C := R_M) (T := F_M) (N := 7) hx hb htb i_M hown hK hP 0 rfl rfl 1 (by decide) (htb _ tb_215) (fun _ h9 => h9) rfl d_M_row_154 ?_
                  refine lv_iload_n hx hb d_M_row_157 rfl (lv_at hl 5 rfl) ?_
                  refine dd_lald (j := j) hx hb hK hP 1 0 rfl rfl rfl hj (by decide) d_M_row_158 ?_
                  refine lv_lload_n hx hb d_M_row_159 rfl (lv_at hl 3 rfl) ?_
                  refine lv_lsub hx hb d_M_row_160 ?_
                  refine lv_lload hx hb d_M_row_161 (lv_at hl 2 rfl) ?_
                  refine lv_ladd hx hb d_M_row_163 ?_
                  refine lv_goto (tgt := 169) hx hb d_M_row_164 (by decide) ?_
                  exact W.lret (v := (((op j) - (dd_mW mf mb (nI j) mv)) + (dd_mC mf mb (nI j) mv))) hx hb hr (fun t ht hW => ⟨(((op j) - (dd_mW mf mb (nI j) mv)) + (dd_mC mf mb (nI j) mv)), rfl, by unfold dd_rowM; rw [if_neg c_2, if_neg c_3, if_pos c_4, nI_clamp (by omega)]; unfold dd_rwM; rw [if_pos c_6, if_pos c_7, if_pos c_8, if_neg (not_not_intro c_9)], ht⟩) (fun q h => by cases h) d_M_row_169
              · refine lv_lload hx hb d_M_row_143 (lv_at hl 2 rfl) ?_
                refine lv_goto (tgt := 169) hx hb d_M_row_145 (by decide) ?_
                exact W.lret (v := (dd_mC mf mb (nI j) mv)) hx hb hr (fun t ht hW => ⟨(dd_mC mf mb (nI j) mv), rfl, by unfold dd_rowM; rw [if_neg c_2, if_neg c_3, if_pos c_4, nI_clamp (by omega)]; unfold dd_rwM; rw [if_pos c_6, if_pos c_7, if_neg (not_not_intro c_8)], ht⟩) (fun q h => by cases h) d_M_row_169
            · refine lv_lload_n hx hb d_M_row_134 rfl (lv_at hl 3 rfl) ?_
              refine lv_goto (tgt := 169) hx hb d_M_row_135 (by decide) ?_
              exact W.lret (v := (dd_mW mf mb (nI j) mv)) hx hb hr (fun t ht hW => ⟨(dd_mW mf mb (nI j) mv), rfl, by unfold dd_rowM; rw [if_neg c_2, if_neg c_3, if_pos c_4, nI_clamp (by omega)]; unfold dd_rwM; rw [if_pos c_6, if_neg (not_not_intro c_7)], ht⟩) (fun q h => by cases h) d_M_row_169
          · refine lv_aload_n hx hb d_M_row_120 rfl (lv_at hl 6 rfl) ?_
            refine va_get (D := D) (ci := 4) (v := .ref (h 13)) (C := R_M) (T := F_M) (N := 7) hx hb htb i_M hown hK hP 0 rfl rfl 1 (by decide) (htb _ tb_215) (fun _ h9 => h9) rfl d_M_row_121 ?_
            refine lv_iload_n hx hb d_M_row_124 rfl (lv_at hl 5 rfl) ?_
            refine dd_lald (j := j) hx hb hK hP 1 0 rfl rfl rfl hj (by decide) d_M_row_125 ?_
            refine lv_goto (tgt := 169) hx hb d_M_row_126 (by decide) ?_
            exact W.lret (v := (op j)) hx hb hr (fun t ht hW => ⟨(op j), rfl, by unfold dd_rowM; rw [if_neg c_2, if_neg c_3, if_pos c_4, nI_clamp (by omega)]; unfold dd_rwM; rw [if_neg (not_not_intro c_6)], ht⟩) (fun q h => by cases h) d_M_row_169
        · have hlt : i < mv := dd_nle_nI (by omega) c_5
          refine lv_aload_n hx hb d_M_row_38 rfl (lv_at hl 6 rfl) ?_
          refine va_get (D := D) (ci := 4) (v := .ref (h 14)) (C := R_M) (T := F_M) (N := 7) hx hb htb i_M hown hK hP 0 rfl rfl 3 (by decide) (htb _ tb_217) (fun _ h9 => h9) rfl d_M_row_39 ?_
          refine lv_iload hx hb d_M_row_42 (lv_at hl 0 rfl) ?_
          refine dd_iald (j := i) hx hb hK hP 2 1 rfl rfl rfl (by omega) (by decide) d_M_row_44 ?_
          refine lv_iload_n hx hb d_M_row_45 rfl (lv_at hl 5 rfl) ?_
          refine lv_icmp_ne (tgt := 110) hx hb d_M_row_46 (by decide) (fun c_10 => ?_) (fun c_10 => ?_)
          · refine lv_iinc (v := (nI (i + 1))) (lv' := [(9, .int (nI (i + 1))), (7, .long (dd_mN mf (nI j) i)), (5, .long (dd_mC mf mb (nI j) i)), (3, .long (dd_mW mf mb (nI j) i)), (2, .int what), (1, .int (nI j)), (0, .ref (h 12))]) hx hb d_M_row_110 hl (k := 0) rfl (dd_inc i) (by decide) rfl (fun ls hl => ?_)
            refine lv_goto (tgt := 29) hx hb d_M_row_113 (by decide) ?_
            rw [← dd_mW_skip (mb := mb) c_10, ← dd_mC_skip (mb := mb) c_10, ← dd_mN_skip c_10] at hl
            exact ih29 (ls, (i + 1)) _ _ ⟨lv_sub hl [0, 1, 2, 3, 4, 5, 6] rfl, hlt, rfl, rfl⟩ (by dsimp only; omega)
          · refine dd_jn (α := Int64) (P := fun z => z = (if 0 ≤ (mb i) then (dd_mW mf mb (nI j) i) else ((dd_mW mf mb (nI j) i) - (mb i)))) (g := fun z => F0 m 74 ls [.long z]) (fun z (ez : z = (if 0 ≤ (mb i) then (dd_mW mf mb (nI j) i) else ((dd_mW mf mb (nI j) i) - (mb i)))) => ?_) (fun jn74 => ?_)
            · subst ez
              refine W.eq (g2 := F0 m 74 ls [.long (if 0 ≤ (mb i) then (dd_mW mf mb (nI j) i) else ((dd_mW mf mb (nI j) i) - (mb i)))]) rfl ?_
              refine lv_lstore_n (lv' := [(3, .long (if 0 ≤ (mb i) then (dd_mW mf mb (nI j) i) else ((dd_mW mf mb (nI j) i) - (mb i)))), (9, .int (nI i)), (7, .long (dd_mN mf (nI j) i)), (5, .long (dd_mC mf mb (nI j) i)), (2, .int what), (1, .int (nI j)), (0, .ref (h 12))]) hx hb d_M_row_74 rfl hl (by decide) rfl (fun ls hl => ?_)
              refine dd_jn (α := Int64) (P := fun z => z = (if (mb i) ≤ 0 then (dd_mC mf mb (nI j) i) else ((dd_mC mf mb (nI j) i) + (mb i)))) (g := fun z => F0 m 102 ls [.long z]) (fun z (ez : z = (if (mb i) ≤ 0 then (dd_mC mf mb (nI j) i) else ((dd_mC mf mb (nI j) i) + (mb i)))) => ?_) (fun jn102 => ?_)
              · subst ez
                refine W.eq (g2 := F0 m 102 ls [.long (if (mb i) ≤ 0 then (dd_mC mf mb (nI j) i) else ((dd_mC mf mb (nI j) i) + (mb i)))]) rfl ?_
                refine lv_lstore (lv' := [(5, .long (if (mb i) ≤ 0 then (dd_mC mf mb (nI j) i) else ((dd_mC mf mb (nI j) i) + (mb i)))), (3, .long (if 0 ≤ (mb i) then (dd_mW mf mb (nI j) i) else ((dd_mW mf mb (nI j) i) - (mb i)))), (9, .int (nI i)), (7, .long (dd_mN mf (nI j) i)), (2, .int what), (1, .int (nI j)), (0, .ref (h 12))]) hx hb d_M_row_102 hl (by decide) rfl (fun ls hl => ?_)
                refine lv_lload hx hb d_M_row_104 (lv_at hl 3 rfl) ?_
                refine lv_lconst (v := 1) hx hb d_M_row_106 (by decide) ?_
                refine lv_ladd hx hb d_M_row_107 ?_
                refine lv_lstore (lv' := [(7, .long ((dd_mN mf (nI j) i) + 1)), (5, .long (if (mb i) ≤ 0 then (dd_mC mf mb (nI j) i) else ((dd_mC mf mb (nI j) i) + (mb i)))), (3, .long (if 0 ≤ (mb i) then (dd_mW mf mb (nI j) i) else ((dd_mW mf mb (nI j) i) - (mb i)))), (9, .int (nI i)), (2, .int what), (1, .int (nI j)), (0, .ref (h 12))]) hx hb d_M_row_108 hl (by decide) rfl (fun ls hl => ?_)
                refine lv_iinc (v := (nI (i + 1))) (lv' := [(9, .int (nI (i + 1))), (7, .long ((dd_mN mf (nI j) i) + 1)), (5, .long (if (mb i) ≤ 0 then (dd_mC mf mb (nI j) i) else ((dd_mC mf mb (nI j) i) + (mb i)))), (3, .long (if 0 ≤ (mb i) then (dd_mW mf mb (nI j) i) else ((dd_mW mf mb (nI j) i) - (mb i)))), (2, .int what), (1, .int (nI j)), (0, .ref (h 12))]) hx hb d_M_row_110 hl (k := 3) rfl (dd_inc i) (by decide) rfl (fun ls hl => ?_)
                refine lv_goto (tgt := 29) hx hb d_M_row_113 (by decide) ?_
                rw [← dd_mW_take (mb := mb) c_10, ← dd_mC_take (mb := mb) c_10, ← dd_mN_take c_10] at hl
                exact ih29 (ls, (i + 1)) _ _ ⟨lv_sub hl [0, 1, 2, 3, 4, 5, 6] rfl, hlt, rfl, rfl⟩ (by dsimp only; omega)
              refine lv_aload_n hx hb d_M_row_75 rfl (lv_at hl 6 rfl) ?_
              refine va_get (D := D) (ci := 4) (v := .ref (h 15)) (C := R_M) (T := F_M) (N := 7) hx hb htb i_M hown hK hP 0 rfl rfl 4 (by decide) (htb _ tb_218) (fun _ h9 => h9) rfl d_M_row_76 ?_
              refine lv_iload hx hb d_M_row_79 (lv_at hl 1 rfl) ?_
              refine dd_lald (j := i) hx hb hK hP 3 0 rfl rfl rfl (by omega) (by decide) d_M_row_81 ?_
              refine lv_lconst (v := 0) hx hb d_M_row_82 (by decide) ?_
              refine dd_lc_le (tgt := 100) hx hb d_M_row_83 d_M_row_84 (by decide) (fun c_11 => ?_) (fun c_11 => ?_)
              · refine lv_lload hx hb d_M_row_100 (lv_at hl 3 rfl) ?_
                exact jn102 _ ((if_pos c_11).symm)
              · refine lv_lload hx hb d_M_row_87 (lv_at hl 3 rfl) ?_
                refine lv_aload_n hx hb d_M_row_89 rfl (lv_at hl 6 rfl) ?_
                refine va_get (D := D) (ci := 4) (v := .ref (h 15)) (C := R_M) (T := F_M) (N := 7) hx hb htb i_M hown hK hP 0 rfl rfl 4 (by decide) (htb _ tb_218) (fun _ h9 => h9) rfl d_M_row_90 ?_
                refine lv_iload hx hb d_M_row_93 (lv_at hl 1 rfl) ?_
                refine dd_lald (j := i) hx hb hK hP 3 0 rfl rfl rfl (by omega) (by decide) d_M_row_95 ?_
                refine lv_ladd hx hb d_M_row_96 ?_
                refine lv_goto (tgt := 102) hx hb d_M_row_97 (by decide) ?_
                exact jn102 _ ((if_neg c_11).symm)
            refine lv_aload_n hx hb d_M_row_49 rfl (lv_at hl 6 rfl) ?_
            refine va_get (D := D) (ci := 4) (v := .ref (h 15)) (C := R_M) (T := F_M) (N := 7) hx hb htb i_M hown hK hP 0 rfl rfl 4 (by decide) (htb _ tb_218) (fun _ h9 => h9) rfl d_M_row_50 ?_
            refine lv_iload hx hb d_M_row_53 (lv_at hl 0 rfl) ?_
            refine dd_lald (j := i) hx hb hK hP 3 0 rfl rfl rfl (by omega) (by decide) d_M_row_55 ?_
            refine lv_lconst (v := 0) hx hb d_M_row_56 (by decide) ?_
            refine dd_lc_ge (tgt := 73) hx hb d_M_row_57 d_M_row_58 (by decide) (fun c_12 => ?_) (fun c_12 => ?_)
            · refine lv_lload_n hx hb d_M_row_73 rfl (lv_at hl 3 rfl) ?_
              exact jn74 _ ((if_pos c_12).symm)
            · refine lv_lload_n hx hb d_M_row_61 rfl (lv_at hl 3 rfl) ?_
              refine lv_aload_n hx hb d_M_row_62 rfl (lv_at hl 6 rfl) ?_
              refine va_get (D := D) (ci := 4) (v := .ref (h 15)) (C := R_M) (T := F_M) (N := 7) hx hb htb i_M hown hK hP 0 rfl rfl 4 (by decide) (htb _ tb_218) (fun _ h9 => h9) rfl d_M_row_63 ?_
              refine lv_iload hx hb d_M_row_66 (lv_at hl 0 rfl) ?_
              refine dd_lald (j := i) hx hb hK hP 3 0 rfl rfl rfl (by omega) (by decide) d_M_row_68 ?_
              refine lv_lsub hx hb d_M_row_69 ?_
              refine lv_goto (tgt := 74) hx hb d_M_row_70 (by decide) ?_
              exact jn74 _ ((if_neg c_12).symm)
      · refine lv_lconst (v := 0) hx hb d_M_row_16 (by decide) ?_
        exact W.lret (v := 0) hx hb hr (fun t ht hW => ⟨0, rfl, by unfold dd_rowM; rw [if_neg c_2, if_neg c_3, if_neg c_4], ht⟩) (fun q h => by cases h) d_M_row_17
set_option maxHeartbeats 4000000 in
set_option maxRecDepth 100000 in
theorem c_M_isTold (l : Launch) (D : va_G) (k : Nat → ClassId) (h : Nat → Nat) (tk : Int64) (op : Nat → Int64) (mv : Nat) (mf : Nat → Int32) (mb : Nat → Int64) (wr : Int32) (tx : Nat → Int32) (hmv : mv ≤ 520) (q : Int32) : Met l y_M_isTold w_M_isTold ({ frames := 2, cells := 0, slots := 0, locals := 49 }) (dd_PR D k (dd_wM k h (tk, op, nI mv, mf, mb, wr, tx)) [.ref (h 12), .int q]) (vp_Si (fun r => r = dd_tdM op mf mb mv q)) 0 0 (fun _ => False) := by
  refine Met.ofW (cc := b_M_isTold) (maxL := 2) (ret := (some FieldType.boolean)) (by decide) rfl ?_
  intro p e s m args below meth c s₁ B hml hv
  obtain ⟨rfl, hP, hK, hN⟩ := hv
  have hx := B.exec
  have hb := B.bytes
  have hr := B.returns
  have htb := dd_tb (atoms_spec (ws := w_M_isTold) B.pre)
  have hown : s.vm.findClass "DayDeskModel" = some m.cls := findClass_of_methodNamed B.named
  have hlocks := B.notSynchronized
  have hS : va_S (fun _ => False) s.heap s.heap [] := va_S.rf
  have hP : va_P D dd_cl [((h 12), .inr (4, [.long tk, .ref (h 13), .int (nI mv), .ref (h 14), .ref (h 15), .int wr, .ref (h 16)])), ((h 13), .inl (k 0, 200, .inr (.inl op))), ((h 14), .inl (k 1, 520, .inl mf)), ((h 15), .inl (k 0, 520, .inr (.inl mb))), ((h 16), .inl (k 1, 120, .inl tx))] s.heap := hP
  have hl := lv_entry ([.ref (h 12), .int q]) (n := 2) (Nat.le_of_ble_eq_true rfl)
  rw [lg_entry_eq]
  generalize (lg_sl ([.ref (h 12), .int q]) ++ List.replicate (2 - (lg_sl ([.ref (h 12), .int q])).length) Slot.unset).toArray = ls at hl ⊢
  have hl : lv_has ls 2 [(0, .ref (h 12)), (1, .int q)] := hl
  refine lv_iload_n hx hb d_M_isTold_0 rfl (lv_at hl 1 rfl) ?_
  refine vp_callSi (va_Run.run (va_runS (As := [.int q]) (rest := []) ⟨hx, hb, hml, hown, htb⟩ (c_M_isPosition l q) (va_cwS 1 htb (dd_gS tb_253 tb_254 tb_7 tb_255) rfl rfl rfl hd_M_isPosition.2 ⟨Nat.le_of_ble_eq_true rfl, Nat.le_of_ble_eq_true rfl⟩) ⟨dd_PS.bl, dd_PS.of⟩ rfl rfl hl.1 rfl (lv_room (Nat.le_of_ble_eq_true rfl)) d_M_isTold_1 ⟨Nat.le_of_ble_eq_true rfl, Nat.le_of_ble_eq_true rfl⟩)) (fun r_1 er_1 => ?_)
  subst er_1
  refine lv_if_eq (tgt := 33) hx hb d_M_isTold_4 (by decide) (fun c_2 => ?_) (fun c_2 => ?_)
  · refine lv_iconst (v := 0) hx hb d_M_isTold_33 (by decide) ?_
    exact W.zret (v := 0) hx hb hr (by decide) (fun t ht hW => ⟨0, rfl, by unfold dd_tdM; rw [if_pos c_2], ht⟩) (fun q h => by cases h) d_M_isTold_34
  · obtain ⟨j, hj, rfl⟩ := dd_isP_of c_2
    refine lv_aload_n hx hb d_M_isTold_7 rfl (lv_at hl 0 rfl) ?_
    refine va_get (D := D) (ci := 4) (v := .ref (h 13)) (C := R_M) (T := F_M) (N := 7) hx hb htb i_M hown hK hP 0 rfl rfl 1 (by decide) (htb _ tb_215) (fun _ h9 => h9) rfl d_M_isTold_8 ?_
    refine lv_iload_n hx hb d_M_isTold_11 rfl (lv_at hl 1 rfl) ?_
    refine dd_lald (j := j) hx hb hK hP 1 0 rfl rfl rfl hj (by decide) d_M_isTold_12 ?_
    refine lv_lconst (v := 0) hx hb d_M_isTold_13 (by decide) ?_
    refine dd_lc_ne (tgt := 29) hx hb d_M_isTold_14 d_M_isTold_15 (by decide) (fun c_3 => ?_) (fun c_3 => ?_)
    · refine lv_iconst (v := 1) hx hb d_M_isTold_29 (by decide) ?_
      refine lv_goto (tgt := 34) hx hb d_M_isTold_30 (by decide) ?_
      exact W.zret (v := 1) hx hb hr (by decide) (fun t ht hW => ⟨1, rfl, by unfold dd_tdM; rw [if_neg c_2, nI_clamp (by omega), if_pos c_3], ht⟩) (fun q h => by cases h) d_M_isTold_34
    · refine lv_aload_n hx hb d_M_isTold_18 rfl (lv_at hl 0 rfl) ?_
      refine lv_iload_n hx hb d_M_isTold_19 rfl (lv_at hl 1 rfl) ?_
      refine lv_iconst (v := 4) hx hb d_M_isTold_20 (by decide) ?_
      have hPc := hP.sub (ws' := [((h 12), .inr (4, [.long tk, .ref (h 13), .int (nI mv), .ref (h 14), .ref (h 15), .int wr, .ref (h 16)])), ((h 13), .inl (k 0, 200, .inr (.inl op))), ((h 14), .inl (k 1, 520, .inl mf)), ((h 15), .inl (k 0, 520, .inr (.inl mb))), ((h 16), .inl (k 1, 120, .inl tx))]) [0, 1, 2, 3, 4] rfl
      refine vp_callSl (va_Run.run (va_runV (As := [.int (nI j), .int 4]) (rest := []) ⟨hx, hb, hml, hown, htb⟩ (c_M_row l D k h tk op mv mf mb wr tx hmv (nI j) 4) (cwV 2 htb (dd_gV tb_249 tb_250 tb_251 tb_7 tb_252) rfl rfl rfl hd_M_row ⟨Nat.le_of_ble_eq_true rfl, Nat.le_of_ble_eq_true rfl⟩) ⟨dd_PR.bl, va_recv hK hPc (ci := 4) (q0 := 0) rfl rfl, dd_PR.of hPc hK hN⟩ rfl rfl hl.1 rfl (lv_room (Nat.le_of_ble_eq_true rfl)) d_M_isTold_21 ⟨Nat.le_of_ble_eq_true rfl, Nat.le_of_ble_eq_true rfl⟩)) (fun r_4 er_4 => ?_)
      subst er_4
      refine lv_lconst (v := 0) hx hb d_M_isTold_24 (by decide) ?_
      refine dd_lc_le (tgt := 33) hx hb d_M_isTold_25 d_M_isTold_26 (by decide) (fun c_5 => ?_) (fun c_5 => ?_)
      · refine lv_iconst (v := 0) hx hb d_M_isTold_33 (by decide) ?_
        exact W.zret (v := 0) hx hb hr (by decide) (fun t ht hW => ⟨0, rfl, by unfold dd_tdM; rw [if_neg c_2, nI_clamp (by omega), if_neg (not_not_intro c_3), if_pos c_5], ht⟩) (fun q h => by cases h) d_M_isTold_34
      · refine lv_iconst (v := 1) hx hb d_M_isTold_29 (by decide) ?_
        refine lv_goto (tgt := 34) hx hb d_M_isTold_30 (by decide) ?_
        exact W.zret (v := 1) hx hb hr (by decide) (fun t ht hW => ⟨1, rfl, by unfold dd_tdM; rw [if_neg c_2, nI_clamp (by omega), if_neg (not_not_intro c_3), if_neg c_5], ht⟩) (fun q h => by cases h) d_M_isTold_34
set_option maxHeartbeats 4000000 in
set_option maxRecDepth 100000 in
theorem c_M_may (l : Launch) (D : va_G) (k : Nat → ClassId) (h : Nat → Nat) (tk : Int64) (op : Nat → Int64) (mv : Nat) (mf : Nat → Int32) (mb : Nat → Int64) (wr : Int32) (tx : Nat → Int32) (kind prio money : Int32) : Met l y_M_may w_M_may ({ frames := 1, cells := 0, slots := 0, locals := 20 }) (dd_PR D k (dd_wM k h (tk, op, nI mv, mf, mb, wr, tx)) [.ref (h 12), .int kind, .int prio, .int money]) (vp_Si (fun r => r = dd_mayM (dd_ph (dd_tkM tk)) kind prio money)) 0 0 (fun _ => False) := by
  refine Met.ofW (cc := b_M_may) (maxL := 7) (ret := (some FieldType.boolean)) (by decide) rfl ?_
  intro p e s m args below meth c s₁ B hml hv
  obtain ⟨rfl, hP, hK, hN⟩ := hv
  have hx := B.exec
  have hb := B.bytes
  have hr := B.returns
  have htb := dd_tb (atoms_spec (ws := w_M_may) B.pre)
  have hown : s.vm.findClass "DayDeskModel" = some m.cls := findClass_of_methodNamed B.named
  have hlocks := B.notSynchronized
  have hS : va_S (fun _ => False) s.heap s.heap [] := va_S.rf
  have hP : va_P D dd_cl [((h 12), .inr (4, [.long tk, .ref (h 13), .int (nI mv), .ref (h 14), .ref (h 15), .int wr, .ref (h 16)])), ((h 13), .inl (k 0, 200, .inr (.inl op))), ((h 14), .inl (k 1, 520, .inl mf)), ((h 15), .inl (k 0, 520, .inr (.inl mb))), ((h 16), .inl (k 1, 120, .inl tx))] s.heap := hP
  have hl := lv_entry ([.ref (h 12), .int kind, .int prio, .int money]) (n := 7) (Nat.le_of_ble_eq_true rfl)
  rw [lg_entry_eq]
  generalize (lg_sl ([.ref (h 12), .int kind, .int prio, .int money]) ++ List.replicate (7 - (lg_sl ([.ref (h 12), .int kind, .int prio, .int money])).length) Slot.unset).toArray = ls at hl ⊢
  have hl : lv_has ls 7 [(0, .ref (h 12)), (1, .int kind), (2, .int prio), (3, .int money)] := hl
  refine lv_aload_n hx hb d_M_may_0 rfl (lv_at hl 0 rfl) ?_
  have hPc := hP.sub (ws' := [((h 12), .inr (4, [.long tk, .ref (h 13), .int (nI mv), .ref (h 14), .ref (h 15), .int wr, .ref (h 16)])), ((h 13), .inl (k 0, 200, .inr (.inl op))), ((h 14), .inl (k 1, 520, .inl mf)), ((h 15), .inl (k 0, 520, .inr (.inl mb))), ((h 16), .inl (k 1, 120, .inl tx))]) [0, 1, 2, 3, 4] rfl
  refine vp_callSi (va_Run.run (va_runV (As := []) (rest := []) ⟨hx, hb, hml, hown, htb⟩ (c_M_tick l D k h tk op mv mf mb wr tx) (cwV 0 htb (dd_gV tb_240 tb_242 tb_p0 tb_7 tb_243) rfl rfl rfl hd_M_tick ⟨Nat.le_of_ble_eq_true rfl, Nat.le_of_ble_eq_true rfl⟩) ⟨dd_PR.bl, va_recv hK hPc (ci := 4) (q0 := 0) rfl rfl, dd_PR.of hPc hK hN⟩ rfl rfl hl.1 rfl (lv_room (Nat.le_of_ble_eq_true rfl)) d_M_may_1 ⟨Nat.le_of_ble_eq_true rfl, Nat.le_of_ble_eq_true rfl⟩)) (fun r_1 er_1 => ?_)
  subst er_1
  refine vp_callSi (va_Run.run (va_runS (As := [.int (dd_tkM tk)]) (rest := []) ⟨hx, hb, hml, hown, htb⟩ (c_M_phaseOf l (dd_tkM tk)) (va_cwS 1 htb (dd_gS tb_269 tb_270 tb_7 tb_271) rfl rfl rfl hd_M_phaseOf.2 ⟨Nat.le_of_ble_eq_true rfl, Nat.le_of_ble_eq_true rfl⟩) ⟨dd_PS.bl, dd_PS.of⟩ rfl rfl hl.1 rfl (lv_room (Nat.le_of_ble_eq_true rfl)) d_M_may_4 ⟨Nat.le_of_ble_eq_true rfl, Nat.le_of_ble_eq_true rfl⟩)) (fun r_2 er_2 => ?_)
  subst er_2
  refine lv_istore (lv' := [(4, .int (dd_ph (dd_tkM tk))), (0, .ref (h 12)), (1, .int kind), (2, .int prio), (3, .int money)]) hx hb d_M_may_7 hl (by decide) rfl (fun ls hl => ?_)
  refine dd_jn (α := Int32) (P := fun z => z = (dd_wk kind)) (g := fun z => F0 m 31 ls [.int z]) (fun z (ez : z = (dd_wk kind)) => ?_) (fun jn31 => ?_)
  · subst ez
    refine W.eq (g2 := F0 m 31 ls [.int (dd_wk kind)]) rfl ?_
    refine lv_istore (lv' := [(5, .int (dd_wk kind)), (4, .int (dd_ph (dd_tkM tk))), (0, .ref (h 12)), (1, .int kind), (2, .int prio), (3, .int money)]) hx hb d_M_may_31 hl (by decide) rfl (fun ls hl => ?_)
    refine dd_jn (α := Int32) (P := fun z => z = (dd_gd kind)) (g := fun z => F0 m 48 ls [.int z]) (fun z (ez : z = (dd_gd kind)) => ?_) (fun jn48 => ?_)
    · subst ez
      refine W.eq (g2 := F0 m 48 ls [.int (dd_gd kind)]) rfl ?_
      refine lv_istore (lv' := [(6, .int (dd_gd kind)), (5, .int (dd_wk kind)), (4, .int (dd_ph (dd_tkM tk))), (0, .ref (h 12)), (1, .int kind), (2, .int prio), (3, .int money)]) hx hb d_M_may_48 hl (by decide) rfl (fun ls hl => ?_)
      refine dd_jn (α := Int32) (P := fun z => z = (dd_gd2 (dd_ph (dd_tkM tk)) kind)) (g := fun z => F0 m 93 ls [.int z]) (fun z (ez : z = (dd_gd2 (dd_ph (dd_tkM tk)) kind)) => ?_) (fun jn93 => ?_)
      · subst ez
        refine W.eq (g2 := F0 m 93 ls [.int (dd_gd2 (dd_ph (dd_tkM tk)) kind)]) rfl ?_
        refine lv_istore (lv' := [(6, .int (dd_gd2 (dd_ph (dd_tkM tk)) kind)), (5, .int (dd_wk kind)), (4, .int (dd_ph (dd_tkM tk))), (0, .ref (h 12)), (1, .int kind), (2, .int prio), (3, .int money)]) hx hb d_M_may_93 hl (by decide) rfl (fun ls hl => ?_)
        refine lv_iload hx hb d_M_may_95 (lv_at hl 0 rfl) ?_
        refine lv_if_eq (tgt := 130) hx hb d_M_may_97 (by decide) (fun c_3 => ?_) (fun c_3 => ?_)
        · refine lv_iconst (v := 0) hx hb d_M_may_130 (by decide) ?_
          exact W.zret (v := 0) hx hb hr (by decide) (fun t ht hW => ⟨0, rfl, by unfold dd_mayM; rw [if_pos c_3], ht⟩) (fun q h => by cases h) d_M_may_131
        · refine lv_iload_n hx hb d_M_may_100 rfl (lv_at hl 4 rfl) ?_
          refine lv_iconst (v := 5) hx hb d_M_may_101 (by decide) ?_
          refine lv_icmp_ne (tgt := 126) hx hb d_M_may_102 (by decide) (fun c_4 => ?_) (fun c_4 => ?_)
          · refine lv_iconst (v := 1) hx hb d_M_may_126 (by decide) ?_
            refine lv_goto (tgt := 131) hx hb d_M_may_127 (by decide) ?_
            exact W.zret (v := 1) hx hb hr (by decide) (fun t ht hW => ⟨1, rfl, by unfold dd_mayM; rw [if_neg c_3, if_pos c_4], ht⟩) (fun q h => by cases h) d_M_may_131
          · refine lv_iload hx hb d_M_may_105 (lv_at hl 2 rfl) ?_
            refine lv_iconst (v := 2) hx hb d_M_may_107 (by decide) ?_
            refine lv_icmp_ne (tgt := 116) hx hb d_M_may_108 (by decide) (fun c_5 => ?_) (fun c_5 => ?_)
            · refine lv_iload hx hb d_M_may_116 (lv_at hl 2 rfl) ?_
              refine lv_iconst (v := 3) hx hb d_M_may_118 (by decide) ?_
              refine lv_icmp_ne (tgt := 126) hx hb d_M_may_119 (by decide) (fun c_6 => ?_) (fun c_6 => ?_)
              · refine lv_iconst (v := 1) hx hb d_M_may_126 (by decide) ?_
                refine lv_goto (tgt := 131) hx hb d_M_may_127 (by decide) ?_
                exact W.zret (v := 1) hx hb hr (by decide) (fun t ht hW => ⟨1, rfl, by unfold dd_mayM; rw [if_neg c_3, if_neg (not_not_intro c_4), if_pos c_5, if_pos c_6], ht⟩) (fun q h => by cases h) d_M_may_131
              · refine lv_iload_n hx hb d_M_may_122 rfl (lv_at hl 6 rfl) ?_
                refine lv_if_eq (tgt := 130) hx hb d_M_may_123 (by decide) (fun c_7 => ?_) (fun c_7 => ?_)
                · refine lv_iconst (v := 0) hx hb d_M_may_130 (by decide) ?_
                  exact W.zret (v := 0) hx hb hr (by decide) (fun t ht hW => ⟨0, rfl, by unfold dd_mayM; rw [if_neg c_3, if_neg (not_not_intro c_4), if_pos c_5, if_neg (not_not_intro c_6), if_pos c_7], ht⟩) (fun q h => by cases h) d_M_may_131
                · refine lv_iconst (v := 1) hx hb d_M_may_126 (by decide) ?_
                  refine lv_goto (tgt := 131) hx hb d_M_may_127 (by decide) ?_
                  exact W.zret (v := 1) hx hb hr (by decide) (fun t ht hW => ⟨1, rfl, by unfold dd_mayM; rw [if_neg c_3, if_neg (not_not_intro c_4), if_pos c_5, if_neg (not_not_intro c_6), if_neg c_7], ht⟩) (fun q h => by cases h) d_M_may_131
            · refine lv_iload_n hx hb d_M_may_111 rfl (lv_at hl 5 rfl) ?_
              refine lv_iconst (v := 4) hx hb d_M_may_112 (by decide) ?_
              refine lv_icmp_gt (tgt := 130) hx hb d_M_may_113 (by decide) (fun c_8 => ?_) (fun c_8 => ?_)
              · refine lv_iconst (v := 0) hx hb d_M_may_130 (by decide) ?_
                exact W.zret (v := 0) hx hb hr (by decide) (fun t ht hW => ⟨0, rfl, by unfold dd_mayM; rw [if_neg c_3, if_neg (not_not_intro c_4), if_neg (not_not_intro c_5), if_pos c_8], ht⟩) (fun q h => by cases h) d_M_may_131
              · refine lv_iload hx hb d_M_may_116 (lv_at hl 2 rfl) ?_
                refine lv_iconst (v := 3) hx hb d_M_may_118 (by decide) ?_
                refine lv_icmp_ne (tgt := 126) hx hb d_M_may_119 (by decide) (fun c_9 => ?_) (fun c_9 => ?_)
                · refine lv_iconst (v := 1) hx hb d_M_may_126 (by decide) ?_
                  refine lv_goto (tgt := 131) hx hb d_M_may_127 (by decide) ?_
                  exact W.zret (v := 1) hx hb hr (by decide) (fun t ht hW => ⟨1, rfl, by unfold dd_mayM; rw [if_neg c_3, if_neg (not_not_intro c_4), if_neg (not_not_intro c_5), if_neg c_8, if_pos c_9], ht⟩) (fun q h => by cases h) d_M_may_131
                · refine lv_iload_n hx hb d_M_may_122 rfl (lv_at hl 6 rfl) ?_
                  refine lv_if_eq (tgt := 130) hx hb d_M_may_123 (by decide) (fun c_10 => ?_) (fun c_10 => ?_)
                  · refine lv_iconst (v := 0) hx hb d_M_may_130 (by decide) ?_
                    exact W.zret (v := 0) hx hb hr (by decide) (fun t ht hW => ⟨0, rfl, by unfold dd_mayM; rw [if_neg c_3, if_neg (not_not_intro c_4), if_neg (not_not_intro c_5), if_neg c_8, if_neg (not_not_intro c_9), if_pos c_10], ht⟩) (fun q h => by cases h) d_M_may_131
                  · refine lv_iconst (v := 1) hx hb d_M_may_126 (by decide) ?_
                    refine lv_goto (tgt := 131) hx hb d_M_may_127 (by decide) ?_
                    exact W.zret (v := 1) hx hb hr (by decide) (fun t ht hW => ⟨1, rfl, by unfold dd_mayM; rw [if_neg c_3, if_neg (not_not_intro c_4), if_neg (not_not_intro c_5), if_neg c_8, if_neg (not_not_intro c_9), if_neg c_10], ht⟩) (fun q h => by cases h) d_M_may_131
      refine lv_iload hx hb d_M_may_50 (lv_at hl 0 rfl) ?_
      refine lv_if_eq (tgt := 92) hx hb d_M_may_52 (by decide) (fun c_11 => ?_) (fun c_11 => ?_)
      · refine lv_iconst (v := 0) hx hb d_M_may_92 (by decide) ?_
        exact jn93 _ (by unfold dd_gd2; rw [if_pos c_11])
      · refine lv_iload hx hb d_M_may_55 (lv_at hl 2 rfl) ?_
        refine lv_if_ne (tgt := 65) hx hb d_M_may_57 (by decide) (fun c_12 => ?_) (fun c_12 => ?_)
        · refine lv_iload hx hb d_M_may_65 (lv_at hl 2 rfl) ?_
          refine lv_iconst (v := 4) hx hb d_M_may_67 (by decide) ?_
          refine lv_icmp_ne (tgt := 88) hx hb d_M_may_68 (by decide) (fun c_13 => ?_) (fun c_13 => ?_)
          · refine lv_iconst (v := 1) hx hb d_M_may_88 (by decide) ?_
            refine lv_goto (tgt := 93) hx hb d_M_may_89 (by decide) ?_
            exact jn93 _ (by unfold dd_gd2; rw [if_neg c_11, if_pos c_12, if_pos c_13])
          · refine lv_iload hx hb d_M_may_71 (lv_at hl 1 rfl) ?_
            refine lv_if_ne (tgt := 92) hx hb d_M_may_73 (by decide) (fun c_14 => ?_) (fun c_14 => ?_)
            · refine lv_iconst (v := 0) hx hb d_M_may_92 (by decide) ?_
              exact jn93 _ (by unfold dd_gd2; rw [if_neg c_11, if_pos c_12, if_neg (not_not_intro c_13), if_pos c_14])
            · refine lv_iload_n hx hb d_M_may_76 rfl (lv_at hl 4 rfl) ?_
              refine lv_bipush (v := 7) hx hb d_M_may_77 (by decide) ?_
              refine lv_icmp_eq (tgt := 92) hx hb d_M_may_79 (by decide) (fun c_15 => ?_) (fun c_15 => ?_)
              · refine lv_iconst (v := 0) hx hb d_M_may_92 (by decide) ?_
                exact jn93 _ (by unfold dd_gd2; rw [if_neg c_11, if_pos c_12, if_neg (not_not_intro c_13), if_neg (not_not_intro c_14), if_pos c_15])
              · refine lv_iload_n hx hb d_M_may_82 rfl (lv_at hl 4 rfl) ?_
                refine lv_bipush (v := 8) hx hb d_M_may_83 (by decide) ?_
                refine lv_icmp_eq (tgt := 92) hx hb d_M_may_85 (by decide) (fun c_16 => ?_) (fun c_16 => ?_)
                · refine lv_iconst (v := 0) hx hb d_M_may_92 (by decide) ?_
                  exact jn93 _ (by unfold dd_gd2; rw [if_neg c_11, if_pos c_12, if_neg (not_not_intro c_13), if_neg (not_not_intro c_14), if_neg c_15, if_pos c_16])
                · refine lv_iconst (v := 1) hx hb d_M_may_88 (by decide) ?_
                  refine lv_goto (tgt := 93) hx hb d_M_may_89 (by decide) ?_
                  exact jn93 _ (by unfold dd_gd2; rw [if_neg c_11, if_pos c_12, if_neg (not_not_intro c_13), if_neg (not_not_intro c_14), if_neg c_15, if_neg c_16])
        · refine lv_iload hx hb d_M_may_60 (lv_at hl 1 rfl) ?_
          refine lv_if_ne (tgt := 92) hx hb d_M_may_62 (by decide) (fun c_17 => ?_) (fun c_17 => ?_)
          · refine lv_iconst (v := 0) hx hb d_M_may_92 (by decide) ?_
            exact jn93 _ (by unfold dd_gd2; rw [if_neg c_11, if_neg (not_not_intro c_12), if_pos c_17])
          · refine lv_iload hx hb d_M_may_65 (lv_at hl 2 rfl) ?_
            refine lv_iconst (v := 4) hx hb d_M_may_67 (by decide) ?_
            refine lv_icmp_ne (tgt := 88) hx hb d_M_may_68 (by decide) (fun c_18 => ?_) (fun c_18 => ?_)
            · refine lv_iconst (v := 1) hx hb d_M_may_88 (by decide) ?_
              refine lv_goto (tgt := 93) hx hb d_M_may_89 (by decide) ?_
              exact jn93 _ (by unfold dd_gd2; rw [if_neg c_11, if_neg (not_not_intro c_12), if_neg (not_not_intro c_17), if_pos c_18])
            · refine lv_iload hx hb d_M_may_71 (lv_at hl 1 rfl) ?_
              refine lv_if_ne (tgt := 92) hx hb d_M_may_73 (by decide) (fun c_19 => ?_) (fun c_19 => ?_)
              · refine lv_iconst (v := 0) hx hb d_M_may_92 (by decide) ?_
                exact jn93 _ (by unfold dd_gd2; rw [if_neg c_11, if_neg (not_not_intro c_12), if_neg (not_not_intro c_17), if_neg (not_not_intro c_18), if_pos c_19])
              · refine lv_iload_n hx hb d_M_may_76 rfl (lv_at hl 4 rfl) ?_
                refine lv_bipush (v := 7) hx hb d_M_may_77 (by decide) ?_
                refine lv_icmp_eq (tgt := 92) hx hb d_M_may_79 (by decide) (fun c_20 => ?_) (fun c_20 => ?_)
                · refine lv_iconst (v := 0) hx hb d_M_may_92 (by decide) ?_
                  exact jn93 _ (by unfold dd_gd2; rw [if_neg c_11, if_neg (not_not_intro c_12), if_neg (not_not_intro c_17), if_neg (not_not_intro c_18), if_neg (not_not_intro c_19), if_pos c_20])
                · refine lv_iload_n hx hb d_M_may_82 rfl (lv_at hl 4 rfl) ?_
                  refine lv_bipush (v := 8) hx hb d_M_may_83 (by decide) ?_
                  refine lv_icmp_eq (tgt := 92) hx hb d_M_may_85 (by decide) (fun c_21 => ?_) (fun c_21 => ?_)
                  · refine lv_iconst (v := 0) hx hb d_M_may_92 (by decide) ?_
                    exact jn93 _ (by unfold dd_gd2; rw [if_neg c_11, if_neg (not_not_intro c_12), if_neg (not_not_intro c_17), if_neg (not_not_intro c_18), if_neg (not_not_intro c_19), if_neg c_20, if_pos c_21])
                  · refine lv_iconst (v := 1) hx hb d_M_may_88 (by decide) ?_
                    refine lv_goto (tgt := 93) hx hb d_M_may_89 (by decide) ?_
                    exact jn93 _ (by unfold dd_gd2; rw [if_neg c_11, if_neg (not_not_intro c_12), if_neg (not_not_intro c_17), if_neg (not_not_intro c_18), if_neg (not_not_intro c_19), if_neg c_20, if_neg c_21])
    refine lv_iload_n hx hb d_M_may_33 rfl (lv_at hl 3 rfl) ?_
    refine lv_if_lt (tgt := 47) hx hb d_M_may_34 (by decide) (fun c_22 => ?_) (fun c_22 => ?_)
    · refine lv_iconst (v := 0) hx hb d_M_may_47 (by decide) ?_
      exact jn48 _ (by unfold dd_gd; rw [if_pos c_22])
    · refine lv_iload_n hx hb d_M_may_37 rfl (lv_at hl 3 rfl) ?_
      refine lv_bipush (v := 14) hx hb d_M_may_38 (by decide) ?_
      refine lv_icmp_gt (tgt := 47) hx hb d_M_may_40 (by decide) (fun c_23 => ?_) (fun c_23 => ?_)
      · refine lv_iconst (v := 0) hx hb d_M_may_47 (by decide) ?_
        exact jn48 _ (by unfold dd_gd; rw [if_neg c_22, if_pos c_23])
      · refine lv_iconst (v := 1) hx hb d_M_may_43 (by decide) ?_
        refine lv_goto (tgt := 48) hx hb d_M_may_44 (by decide) ?_
        exact jn48 _ (by unfold dd_gd; rw [if_neg c_22, if_neg c_23])
  refine lv_iload_n hx hb d_M_may_9 rfl (lv_at hl 2 rfl) ?_
  refine lv_iconst (v := 3) hx hb d_M_may_10 (by decide) ?_
  refine lv_icmp_lt (tgt := 20) hx hb d_M_may_11 (by decide) (fun c_24 => ?_) (fun c_24 => ?_)
  · refine lv_iload_n hx hb d_M_may_20 rfl (lv_at hl 2 rfl) ?_
    refine lv_bipush (v := 13) hx hb d_M_may_21 (by decide) ?_
    refine lv_icmp_ne (tgt := 30) hx hb d_M_may_23 (by decide) (fun c_25 => ?_) (fun c_25 => ?_)
    · refine lv_iconst (v := 0) hx hb d_M_may_30 (by decide) ?_
      exact jn31 _ (by unfold dd_wk; rw [if_pos c_24, if_pos c_25])
    · refine lv_iconst (v := 1) hx hb d_M_may_26 (by decide) ?_
      refine lv_goto (tgt := 31) hx hb d_M_may_27 (by decide) ?_
      exact jn31 _ (by unfold dd_wk; rw [if_pos c_24, if_neg (not_not_intro c_25)])
  · refine lv_iload_n hx hb d_M_may_14 rfl (lv_at hl 2 rfl) ?_
    refine lv_bipush (v := 6) hx hb d_M_may_15 (by decide) ?_
    refine lv_icmp_le (tgt := 26) hx hb d_M_may_17 (by decide) (fun c_26 => ?_) (fun c_26 => ?_)
    · refine lv_iconst (v := 1) hx hb d_M_may_26 (by decide) ?_
      refine lv_goto (tgt := 31) hx hb d_M_may_27 (by decide) ?_
      exact jn31 _ (by unfold dd_wk; rw [if_neg c_24, if_pos c_26])
    · refine lv_iload_n hx hb d_M_may_20 rfl (lv_at hl 2 rfl) ?_
      refine lv_bipush (v := 13) hx hb d_M_may_21 (by decide) ?_
      refine lv_icmp_ne (tgt := 30) hx hb d_M_may_23 (by decide) (fun c_27 => ?_) (fun c_27 => ?_)
      · refine lv_iconst (v := 0) hx hb d_M_may_30 (by decide) ?_
        exact jn31 _ (by unfold dd_wk; rw [if_neg c_24, if_neg c_26, if_pos c_27])
      · refine lv_iconst (v := 1) hx hb d_M_may_26 (by decide) ?_
        refine lv_goto (tgt := 31) hx hb d_M_may_27 (by decide) ?_
        exact jn31 _ (by unfold dd_wk; rw [if_neg c_24, if_neg c_26, if_neg (not_not_intro c_27)])
set_option maxHeartbeats 4000000 in
set_option maxRecDepth 100000 in
theorem c_M_look (l : Launch) (D : va_G) (k : Nat → ClassId) (h : Nat → Nat) (tk : Int64) (op : Nat → Int64) (mv : Nat) (mf : Nat → Int32) (mb : Nat → Int64) (wr : Int32) (tx : Nat → Int32) (n1 n2 : Nat) (hT1 : dd_TR (dd_tkM tk) n1) (hT2 : dd_TP (dd_tkM tk) n2) (what : Int32) : Met l y_M_look w_M_look ({ frames := 1, cells := 0, slots := 0, locals := 20 }) (dd_PR D k (dd_wM k h (tk, op, nI mv, mf, mb, wr, tx)) [.ref (h 12), .int what]) (vp_Si (fun r => r = dd_lkM tk n1 n2 what)) 0 0 (fun _ => False) := by
  refine Met.ofW (cc := b_M_look) (maxL := 5) (ret := (some FieldType.int)) (by decide) rfl ?_
  intro p e s m args below meth c s₁ B hml hv
  obtain ⟨rfl, hP, hK, hN⟩ := hv
  have hx := B.exec
  have hb := B.bytes
  have hr := B.returns
  have htb := dd_tb (atoms_spec (ws := w_M_look) B.pre)
  have hown : s.vm.findClass "DayDeskModel" = some m.cls := findClass_of_methodNamed B.named
  have hlocks := B.notSynchronized
  have hS : va_S (fun _ => False) s.heap s.heap [] := va_S.rf
  have hP : va_P D dd_cl [((h 12), .inr (4, [.long tk, .ref (h 13), .int (nI mv), .ref (h 14), .ref (h 15), .int wr, .ref (h 16)])), ((h 13), .inl (k 0, 200, .inr (.inl op))), ((h 14), .inl (k 1, 520, .inl mf)), ((h 15), .inl (k 0, 520, .inr (.inl mb))), ((h 16), .inl (k 1, 120, .inl tx))] s.heap := hP
  have hl := lv_entry ([.ref (h 12), .int what]) (n := 5) (Nat.le_of_ble_eq_true rfl)
  rw [lg_entry_eq]
  generalize (lg_sl ([.ref (h 12), .int what]) ++ List.replicate (5 - (lg_sl ([.ref (h 12), .int what])).length) Slot.unset).toArray = ls at hl ⊢
  have hl : lv_has ls 5 [(0, .ref (h 12)), (1, .int what)] := hl
  refine lv_aload_n hx hb d_M_look_0 rfl (lv_at hl 0 rfl) ?_
  have hPc := hP.sub (ws' := [((h 12), .inr (4, [.long tk, .ref (h 13), .int (nI mv), .ref (h 14), .ref (h 15), .int wr, .ref (h 16)])), ((h 13), .inl (k 0, 200, .inr (.inl op))), ((h 14), .inl (k 1, 520, .inl mf)), ((h 15), .inl (k 0, 520, .inr (.inl mb))), ((h 16), .inl (k 1, 120, .inl tx))]) [0, 1, 2, 3, 4] rfl
  refine vp_callSi (va_Run.run (va_runV (As := []) (rest := []) ⟨hx, hb, hml, hown, htb⟩ (c_M_tick l D k h tk op mv mf mb wr tx) (cwV 0 htb (dd_gV tb_240 tb_242 tb_p0 tb_7 tb_243) rfl rfl rfl hd_M_tick ⟨Nat.le_of_ble_eq_true rfl, Nat.le_of_ble_eq_true rfl⟩) ⟨dd_PR.bl, va_recv hK hPc (ci := 4) (q0 := 0) rfl rfl, dd_PR.of hPc hK hN⟩ rfl rfl hl.1 rfl (lv_room (Nat.le_of_ble_eq_true rfl)) d_M_look_1 ⟨Nat.le_of_ble_eq_true rfl, Nat.le_of_ble_eq_true rfl⟩)) (fun r_1 er_1 => ?_)
  subst er_1
  refine lv_istore_n (lv' := [(2, .int (dd_tkM tk)), (0, .ref (h 12)), (1, .int what)]) hx hb d_M_look_4 rfl hl (by decide) rfl (fun ls hl => ?_)
  refine lv_iload_n hx hb d_M_look_5 rfl (lv_at hl 2 rfl) ?_
  refine lv_iconst (v := 3) hx hb d_M_look_6 (by decide) ?_
  refine lv_icmp_ge (tgt := 49) hx hb d_M_look_7 (by decide) (fun c_2 => ?_) (fun c_2 => ?_)
  · have h3w := c_2
    by_cases hw3 : what = 3
    · refine lv_iconst (v := 1) hx hb d_M_look_49 (by decide) ?_
      refine lv_istore_n (lv' := [(3, .int 1), (2, .int (dd_tkM tk)), (0, .ref (h 12)), (1, .int what)]) hx hb d_M_look_50 rfl hl (by decide) rfl (fun ls hl => ?_)
      refine lv_iconst (v := 0) hx hb d_M_look_51 (by decide) ?_
      refine lv_istore (lv' := [(4, .int 0), (3, .int 1), (2, .int (dd_tkM tk)), (0, .ref (h 12)), (1, .int what)]) hx hb d_M_look_52 hl (by decide) rfl (fun ls hl => ?_)
      have hb1 := hT1.1
      have hb2 := hT1.2.1
      refine dd_loop (α := Array Slot × Nat) (I := fun a H locs => (lv_has a.1 5 [(4, .int (nI a.2)), (3, .int (nI (a.2 + 1))), (2, .int (dd_tkM tk)), (1, .int what), (0, .ref (h 12))]) ∧ (a.2 + 1 ≤ n1) ∧ (H = s.heap) ∧ (locs = [])) (g := fun a => F0 m 54 a.1 []) (μ := fun a => n1 - a.2) (fun a H locs hI ih54 => ?_) (ls, 0) ⟨lv_sub hl [0, 1, 2, 4, 3] rfl, hb1, rfl, rfl⟩
      obtain ⟨ls, cq⟩ := a
      obtain ⟨hl, hc, rfl, rfl⟩ := hI
      have hl : lv_has ls 5 [(4, .int (nI cq)), (3, .int (nI (cq + 1))), (2, .int (dd_tkM tk)), (1, .int what), (0, .ref (h 12))] := hl
      have hc : cq + 1 ≤ n1 := hc
      refine W.eq (g2 := F0 m 54 ls []) rfl ?_
      refine lv_iload hx hb d_M_look_54 (lv_at hl 0 rfl) ?_
      refine lv_sipush (v := 1200) hx hb d_M_look_56 (by decide) ?_
      refine lv_icmp_ge (tgt := 109) hx hb d_M_look_59 (by decide) (fun c_3 => ?_) (fun c_3 => ?_)
      · exact absurd c_3 (nI_ge (a := cq) (b := 1200) (by omega) (by decide))
      · refine lv_iload_n hx hb d_M_look_62 rfl (lv_at hl 3 rfl) ?_
        refine lv_iconst (v := 3) hx hb d_M_look_63 (by decide) ?_
        refine lv_icmp_ne (tgt := 83) hx hb d_M_look_64 (by decide) (fun c_4 => ?_) (fun c_4 => ?_)
        · exact absurd hw3 c_4
        · refine lv_iload_n hx hb d_M_look_67 rfl (lv_at hl 2 rfl) ?_
          refine lv_iload_n hx hb d_M_look_68 rfl (lv_at hl 1 rfl) ?_
          refine lv_iadd hx hb d_M_look_69 ?_
          refine lv_sipush (v := 1000) hx hb d_M_look_70 (by decide) ?_
          refine lv_irem hx hb d_M_look_73 (by decide) ?_
          refine vp_callSi (va_Run.run (va_runS (As := [.int (((dd_tkM tk) + (nI (cq + 1))) - ((dd_tkM tk) + (nI (cq + 1))) / 1000 * 1000)]) (rest := []) ⟨hx, hb, hml, hown, htb⟩ (c_M_isResolved l (((dd_tkM tk) + (nI (cq + 1))) - ((dd_tkM tk) + (nI (cq + 1))) / 1000 * 1000)) (va_cwS 1 htb (dd_gS tb_256 tb_257 tb_7 tb_258) rfl rfl rfl hd_M_isResolved.2 ⟨Nat.le_of_ble_eq_true rfl, Nat.le_of_ble_eq_true rfl⟩) ⟨dd_PS.bl, dd_PS.of⟩ rfl rfl hl.1 rfl (lv_room (Nat.le_of_ble_eq_true rfl)) d_M_look_74 ⟨Nat.le_of_ble_eq_true rfl, Nat.le_of_ble_eq_true rfl⟩)) (fun r_5 er_5 => ?_)
          subst er_5
          refine lv_if_ne (tgt := 109) hx hb d_M_look_77 (by decide) (fun c_6 => ?_) (fun c_6 => ?_)
          · have hen : cq + 1 = n1 := by
              rcases Nat.lt_or_ge (cq + 1) n1 with q | q
              · exact absurd (hT1.2.2.2 (cq + 1) (by omega) q) c_6
              · omega
            refine lv_iload_n hx hb d_M_look_109 rfl (lv_at hl 3 rfl) ?_
            refine lv_iconst (v := 4) hx hb d_M_look_110 (by decide) ?_
            refine lv_icmp_le (tgt := 118) hx hb d_M_look_111 (by decide) (fun c_7 => ?_) (fun c_7 => ?_)
            · refine lv_iload_n hx hb d_M_look_118 rfl (lv_at hl 1 rfl) ?_
              exact W.iret (v := (nI (cq + 1))) hx hb hr (fun t ht hW => ⟨(nI (cq + 1)), rfl, by unfold dd_lkM; rw [if_pos h3w, if_pos hw3, hen], ht⟩) (fun q h => by cases h) d_M_look_119
            · exact absurd (by rw [hw3]; decide) c_7
          · refine lv_goto (tgt := 100) hx hb d_M_look_80 (by decide) ?_
            have hlt : cq + 1 + 1 ≤ n1 := by
              rcases Nat.lt_or_ge (cq + 1) n1 with q | q
              · exact q
              · obtain rfl : n1 = cq + 1 := by omega
                exact absurd c_6 hT1.2.2.1
            refine lv_iinc (v := (nI (cq + 1 + 1))) (lv' := [(3, .int (nI (cq + 1 + 1))), (4, .int (nI cq)), (2, .int (dd_tkM tk)), (1, .int what), (0, .ref (h 12))]) hx hb d_M_look_100 hl (k := 1) rfl (dd_inc (cq + 1)) (by decide) rfl (fun ls hl => ?_)
            refine lv_iinc (v := (nI (cq + 1))) (lv' := [(4, .int (nI (cq + 1))), (3, .int (nI (cq + 1 + 1))), (2, .int (dd_tkM tk)), (1, .int what), (0, .ref (h 12))]) hx hb d_M_look_103 hl (k := 1) rfl (dd_inc cq) (by decide) rfl (fun ls hl => ?_)
            refine lv_goto (tgt := 54) hx hb d_M_look_106 (by decide) ?_
            exact ih54 (ls, (cq + 1)) _ _ ⟨lv_sub hl [0, 1, 2, 3, 4] rfl, hlt, rfl, rfl⟩ (by dsimp only; omega)
    refine lv_iconst (v := 1) hx hb d_M_look_49 (by decide) ?_
    refine lv_istore_n (lv' := [(3, .int 1), (2, .int (dd_tkM tk)), (0, .ref (h 12)), (1, .int what)]) hx hb d_M_look_50 rfl hl (by decide) rfl (fun ls hl => ?_)
    refine lv_iconst (v := 0) hx hb d_M_look_51 (by decide) ?_
    refine lv_istore (lv' := [(4, .int 0), (3, .int 1), (2, .int (dd_tkM tk)), (0, .ref (h 12)), (1, .int what)]) hx hb d_M_look_52 hl (by decide) rfl (fun ls hl => ?_)
    have hb1 := hT2.1
    have hb2 := hT2.2.1
    refine dd_loop (α := Array Slot × Nat) (I := fun a H locs => (lv_has a.1 5 [(4, .int (nI a.2)), (3, .int (nI (a.2 + 1))), (2, .int (dd_tkM tk)), (1, .int what), (0, .ref (h 12))]) ∧ (a.2 + 1 ≤ n2) ∧ (H = s.heap) ∧ (locs = [])) (g := fun a => F0 m 54 a.1 []) (μ := fun a => n2 - a.2) (fun a H locs hI ih54 => ?_) (ls, 0) ⟨lv_sub hl [0, 1, 2, 4, 3] rfl, hb1, rfl, rfl⟩
    obtain ⟨ls, cq⟩ := a
    obtain ⟨hl, hc, rfl, rfl⟩ := hI
    have hl : lv_has ls 5 [(4, .int (nI cq)), (3, .int (nI (cq + 1))), (2, .int (dd_tkM tk)), (1, .int what), (0, .ref (h 12))] := hl
    have hc : cq + 1 ≤ n2 := hc
    refine W.eq (g2 := F0 m 54 ls []) rfl ?_
    refine lv_iload hx hb d_M_look_54 (lv_at hl 0 rfl) ?_
    refine lv_sipush (v := 1200) hx hb d_M_look_56 (by decide) ?_
    refine lv_icmp_ge (tgt := 109) hx hb d_M_look_59 (by decide) (fun c_8 => ?_) (fun c_8 => ?_)
    · exact absurd c_8 (nI_ge (a := cq) (b := 1200) (by omega) (by decide))
    · refine lv_iload_n hx hb d_M_look_62 rfl (lv_at hl 3 rfl) ?_
      refine lv_iconst (v := 3) hx hb d_M_look_63 (by decide) ?_
      refine lv_icmp_ne (tgt := 83) hx hb d_M_look_64 (by decide) (fun c_9 => ?_) (fun c_9 => ?_)
      · refine lv_iload_n hx hb d_M_look_83 rfl (lv_at hl 2 rfl) ?_
        refine lv_iload_n hx hb d_M_look_84 rfl (lv_at hl 1 rfl) ?_
        refine lv_iadd hx hb d_M_look_85 ?_
        refine lv_sipush (v := 1000) hx hb d_M_look_86 (by decide) ?_
        refine lv_irem hx hb d_M_look_89 (by decide) ?_
        refine vp_callSi (va_Run.run (va_runS (As := [.int (((dd_tkM tk) + (nI (cq + 1))) - ((dd_tkM tk) + (nI (cq + 1))) / 1000 * 1000)]) (rest := []) ⟨hx, hb, hml, hown, htb⟩ (c_M_phaseOf l (((dd_tkM tk) + (nI (cq + 1))) - ((dd_tkM tk) + (nI (cq + 1))) / 1000 * 1000)) (va_cwS 1 htb (dd_gS tb_269 tb_270 tb_7 tb_271) rfl rfl rfl hd_M_phaseOf.2 ⟨Nat.le_of_ble_eq_true rfl, Nat.le_of_ble_eq_true rfl⟩) ⟨dd_PS.bl, dd_PS.of⟩ rfl rfl hl.1 rfl (lv_room (Nat.le_of_ble_eq_true rfl)) d_M_look_90 ⟨Nat.le_of_ble_eq_true rfl, Nat.le_of_ble_eq_true rfl⟩)) (fun r_10 er_10 => ?_)
        subst er_10
        refine lv_iload_n hx hb d_M_look_93 rfl (lv_at hl 2 rfl) ?_
        refine vp_callSi (va_Run.run (va_runS (As := [.int (dd_tkM tk)]) (rest := [.int (dd_ph (((dd_tkM tk) + (nI (cq + 1))) - ((dd_tkM tk) + (nI (cq + 1))) / 1000 * 1000))]) ⟨hx, hb, hml, hown, htb⟩ (c_M_phaseOf l (dd_tkM tk)) (va_cwS 1 htb (dd_gS tb_269 tb_270 tb_7 tb_271) rfl rfl rfl hd_M_phaseOf.2 ⟨Nat.le_of_ble_eq_true rfl, Nat.le_of_ble_eq_true rfl⟩) ⟨dd_PS.bl, dd_PS.of⟩ rfl rfl hl.1 rfl (lv_room (Nat.le_of_ble_eq_true rfl)) d_M_look_94 ⟨Nat.le_of_ble_eq_true rfl, Nat.le_of_ble_eq_true rfl⟩)) (fun r_11 er_11 => ?_)
        subst er_11
        refine lv_icmp_ne (tgt := 109) hx hb d_M_look_97 (by decide) (fun c_12 => ?_) (fun c_12 => ?_)
        · have hen : cq + 1 = n2 := by
            rcases Nat.lt_or_ge (cq + 1) n2 with q | q
            · exact absurd (hT2.2.2.2 (cq + 1) (by omega) q) c_12
            · omega
          refine lv_iload_n hx hb d_M_look_109 rfl (lv_at hl 3 rfl) ?_
          refine lv_iconst (v := 4) hx hb d_M_look_110 (by decide) ?_
          refine lv_icmp_le (tgt := 118) hx hb d_M_look_111 (by decide) (fun c_13 => ?_) (fun c_13 => ?_)
          · refine lv_iload_n hx hb d_M_look_118 rfl (lv_at hl 1 rfl) ?_
            exact W.iret (v := (nI (cq + 1))) hx hb hr (fun t ht hW => ⟨(nI (cq + 1)), rfl, by unfold dd_lkM; rw [if_pos h3w, if_neg hw3, if_pos c_13, hen], ht⟩) (fun q h => by cases h) d_M_look_119
          · refine lv_iconst (v := (-1)) hx hb d_M_look_114 (by decide) ?_
            refine lv_goto (tgt := 119) hx hb d_M_look_115 (by decide) ?_
            exact W.iret (v := (-1)) hx hb hr (fun t ht hW => ⟨(-1), rfl, by unfold dd_lkM; rw [if_pos h3w, if_neg hw3, if_neg c_13], ht⟩) (fun q h => by cases h) d_M_look_119
        · have hlt : cq + 1 + 1 ≤ n2 := by
            rcases Nat.lt_or_ge (cq + 1) n2 with q | q
            · exact q
            · obtain rfl : n2 = cq + 1 := by omega
              exact absurd c_12 hT2.2.2.1
          refine lv_iinc (v := (nI (cq + 1 + 1))) (lv' := [(3, .int (nI (cq + 1 + 1))), (4, .int (nI cq)), (2, .int (dd_tkM tk)), (1, .int what), (0, .ref (h 12))]) hx hb d_M_look_100 hl (k := 1) rfl (dd_inc (cq + 1)) (by decide) rfl (fun ls hl => ?_)
          refine lv_iinc (v := (nI (cq + 1))) (lv' := [(4, .int (nI (cq + 1))), (3, .int (nI (cq + 1 + 1))), (2, .int (dd_tkM tk)), (1, .int what), (0, .ref (h 12))]) hx hb d_M_look_103 hl (k := 1) rfl (dd_inc cq) (by decide) rfl (fun ls hl => ?_)
          refine lv_goto (tgt := 54) hx hb d_M_look_106 (by decide) ?_
          exact ih54 (ls, (cq + 1)) _ _ ⟨lv_sub hl [0, 1, 2, 3, 4] rfl, hlt, rfl, rfl⟩ (by dsimp only; omega)
      · exact absurd c_9 hw3
  · refine lv_iload_n hx hb d_M_look_10 rfl (lv_at hl 2 rfl) ?_
    refine lv_if_ne (tgt := 26) hx hb d_M_look_11 (by decide) (fun c_14 => ?_) (fun c_14 => ?_)
    · refine lv_iload_n hx hb d_M_look_26 rfl (lv_at hl 2 rfl) ?_
      refine lv_iconst (v := 1) hx hb d_M_look_27 (by decide) ?_
      refine lv_icmp_ne (tgt := 35) hx hb d_M_look_28 (by decide) (fun c_15 => ?_) (fun c_15 => ?_)
      · refine lv_iload_n hx hb d_M_look_35 rfl (lv_at hl 2 rfl) ?_
        refine lv_iconst (v := 2) hx hb d_M_look_36 (by decide) ?_
        refine lv_icmp_ne (tgt := 47) hx hb d_M_look_37 (by decide) (fun c_16 => ?_) (fun c_16 => ?_)
        · refine lv_iconst (v := (-1)) hx hb d_M_look_47 (by decide) ?_
          exact W.iret (v := (-1)) hx hb hr (fun t ht hW => ⟨(-1), rfl, by unfold dd_lkM; rw [if_neg c_2, if_pos c_14, if_pos c_15, if_pos c_16], ht⟩) (fun q h => by cases h) d_M_look_48
        · refine lv_iload_n hx hb d_M_look_40 rfl (lv_at hl 0 rfl) ?_
          refine vp_callSi (va_Run.run (va_runS (As := [.int (dd_tkM tk)]) (rest := []) ⟨hx, hb, hml, hown, htb⟩ (c_M_phaseOf l (dd_tkM tk)) (va_cwS 1 htb (dd_gS tb_269 tb_270 tb_7 tb_271) rfl rfl rfl hd_M_phaseOf.2 ⟨Nat.le_of_ble_eq_true rfl, Nat.le_of_ble_eq_true rfl⟩) ⟨dd_PS.bl, dd_PS.of⟩ rfl rfl hl.1 rfl (lv_room (Nat.le_of_ble_eq_true rfl)) d_M_look_41 ⟨Nat.le_of_ble_eq_true rfl, Nat.le_of_ble_eq_true rfl⟩)) (fun r_17 er_17 => ?_)
          subst er_17
          refine lv_goto (tgt := 48) hx hb d_M_look_44 (by decide) ?_
          exact W.iret (v := (dd_ph (dd_tkM tk))) hx hb hr (fun t ht hW => ⟨(dd_ph (dd_tkM tk)), rfl, by unfold dd_lkM; rw [if_neg c_2, if_pos c_14, if_pos c_15, if_neg (not_not_intro c_16)], ht⟩) (fun q h => by cases h) d_M_look_48
      · refine lv_iload_n hx hb d_M_look_31 rfl (lv_at hl 0 rfl) ?_
        refine lv_goto (tgt := 48) hx hb d_M_look_32 (by decide) ?_
        exact W.iret (v := (dd_tkM tk)) hx hb hr (fun t ht hW => ⟨(dd_tkM tk), rfl, by unfold dd_lkM; rw [if_neg c_2, if_pos c_14, if_neg (not_not_intro c_15)], ht⟩) (fun q h => by cases h) d_M_look_48
    · refine lv_aload_n hx hb d_M_look_14 rfl (lv_at hl 1 rfl) ?_
      refine va_get (D := D) (ci := 4) (v := .long tk) (C := R_M) (T := F_M) (N := 7) hx hb htb i_M hown hK hP 0 rfl rfl 0 (by decide) (htb _ tb_214) (fun _ h9 => h9) rfl d_M_look_15 ?_
      refine lv_ldc2 (v := 1000) hx hb hown (htb _ tb_244) d_M_look_18 ?_
      refine lv_ldiv hx hb d_M_look_21 (by decide) ?_
      refine lv_l2i hx hb d_M_look_22 rfl ?_
      refine lv_goto (tgt := 48) hx hb d_M_look_23 (by decide) ?_
      exact W.iret (v := ((tk / 1000).toInt32)) hx hb hr (fun t ht hW => ⟨((tk / 1000).toInt32), rfl, by unfold dd_lkM; rw [if_neg c_2, if_neg (not_not_intro c_14)], ht⟩) (fun q h => by cases h) d_M_look_48
set_option maxHeartbeats 4000000 in
set_option maxRecDepth 100000 in
theorem c_M_at (l : Launch) (D : va_G) (k : Nat → ClassId) (h : Nat → Nat) (tk : Int64) (op : Nat → Int64) (mv : Nat) (mf : Nat → Int32) (mb : Nat → Int64) (z : Nat) (tx : Nat → Int32) (hz : z ≤ 120) (i : Int32) : Met l y_M_at w_M_at ({ frames := 0, cells := 0, slots := 0, locals := 0 }) (dd_PR D k (dd_wM k h (tk, op, nI mv, mf, mb, nI z, tx)) [.ref (h 12), .int i]) (vp_Si (fun r => r = dd_atM tx z i)) 0 0 (fun _ => False) := by
  refine Met.ofW (cc := b_M_at) (maxL := 2) (ret := (some FieldType.int)) (by decide) rfl ?_
  intro p e s m args below meth c s₁ B hml hv
  obtain ⟨rfl, hP, hK, hN⟩ := hv
  have hx := B.exec
  have hb := B.bytes
  have hr := B.returns
  have htb := dd_tb (atoms_spec (ws := w_M_at) B.pre)
  have hown : s.vm.findClass "DayDeskModel" = some m.cls := findClass_of_methodNamed B.named
  have hlocks := B.notSynchronized
  have hS : va_S (fun _ => False) s.heap s.heap [] := va_S.rf
  have hP : va_P D dd_cl [((h 12), .inr (4, [.long tk, .ref (h 13), .int (nI mv), .ref (h 14), .ref (h 15), .int (nI z), .ref (h 16)])), ((h 13), .inl (k 0, 200, .inr (.inl op))), ((h 14), .inl (k 1, 520, .inl mf)), ((h 15), .inl (k 0, 520, .inr (.inl mb))), ((h 16), .inl (k 1, 120, .inl tx))] s.heap := hP
  have hl := lv_entry ([.ref (h 12), .int i]) (n := 2) (Nat.le_of_ble_eq_true rfl)
  rw [lg_entry_eq]
  generalize (lg_sl ([.ref (h 12), .int i]) ++ List.replicate (2 - (lg_sl ([.ref (h 12), .int i])).length) Slot.unset).toArray = ls at hl ⊢
  have hl : lv_has ls 2 [(0, .ref (h 12)), (1, .int i)] := hl
  refine lv_iload_n hx hb d_M_at_0 rfl (lv_at hl 1 rfl) ?_
  refine lv_if_lt (tgt := 21) hx hb d_M_at_1 (by decide) (fun c_1 => ?_) (fun c_1 => ?_)
  · refine lv_iconst (v := (-1)) hx hb d_M_at_21 (by decide) ?_
    exact W.iret (v := (-1)) hx hb hr (fun t ht hW => ⟨(-1), rfl, by unfold dd_atM; rw [if_pos c_1], ht⟩) (fun q h => by cases h) d_M_at_22
  · refine lv_iload_n hx hb d_M_at_4 rfl (lv_at hl 1 rfl) ?_
    refine lv_aload_n hx hb d_M_at_5 rfl (lv_at hl 0 rfl) ?_
    refine va_get (D := D) (ci := 4) (v := .int (nI z)) (C := R_M) (T := F_M) (N := 7) hx hb htb i_M hown hK hP 0 rfl rfl 5 (by decide) (htb _ tb_219) (fun _ h9 => h9) rfl d_M_at_6 ?_
    refine lv_icmp_ge (tgt := 21) hx hb d_M_at_9 (by decide) (fun c_2 => ?_) (fun c_2 => ?_)
    · refine lv_iconst (v := (-1)) hx hb d_M_at_21 (by decide) ?_
      exact W.iret (v := (-1)) hx hb hr (fun t ht hW => ⟨(-1), rfl, by unfold dd_atM; rw [if_neg c_1, if_pos c_2], ht⟩) (fun q h => by cases h) d_M_at_22
    · have hlt := dd_at_lt hz c_1 c_2
      refine lv_aload_n hx hb d_M_at_12 rfl (lv_at hl 0 rfl) ?_
      refine va_get (D := D) (ci := 4) (v := .ref (h 16)) (C := R_M) (T := F_M) (N := 7) hx hb htb i_M hown hK hP 0 rfl rfl 6 (by decide) (htb _ tb_220) (fun _ h9 => h9) rfl d_M_at_13 ?_
      refine lv_iload_n hx hb d_M_at_16 rfl (lv_at hl 1 rfl) ?_
      refine dd_iald (j := i.toNatClampNeg) hx hb hK hP 4 1 rfl rfl (dd_selfI c_1) (by omega) (by decide) d_M_at_17 ?_
      refine lv_goto (tgt := 22) hx hb d_M_at_18 (by decide) ?_
      exact W.iret (v := (tx i.toNatClampNeg)) hx hb hr (fun t ht hW => ⟨(tx i.toNatClampNeg), rfl, by unfold dd_atM; rw [if_neg c_1, if_neg c_2], ht⟩) (fun q h => by cases h) d_M_at_22
end
section
/-! contracts: the model, writes -/
theorem dd_app_app0 (r q : List Int32) (f : Nat → Int32) : dd_app f 0 (r ++ q) = dd_app (dd_app f 0 r) r.length q := by
  rw [dd_app_app, Nat.zero_add]
theorem dd_nle_of_lt {a b : Int32} (h : a < b) : ¬ b ≤ a := by
  rw [Int32.le_iff_toInt_le]
  rw [Int32.lt_iff_toInt_lt] at h
  omega
set_option maxHeartbeats 4000000 in
set_option maxRecDepth 100000 in
theorem c_M_put (l : Launch) (D : va_G) (k : Nat → ClassId) (h : Nat → Nat) (sz : Nat) (tk : Int64) (op : Nat → Int64) (mv : Nat) (mf : Nat → Int32) (mb : Nat → Int64) (z : Nat) (tx : Nat → Int32) (hz : z < 120) (x : Int32) : Met l y_M_put w_M_put ({ frames := 0, cells := 0, slots := 0, locals := 0 }) (dd_PM D k sz (dd_wM k h (tk, op, nI mv, mf, mb, nI z, tx)) [.ref (h 12), .int x]) (dd_Qv D (fun u : dd_MS => u = (tk, op, nI mv, mf, mb, nI (z + 1), upd tx z x)) (fun u => dd_wM k h u) (va_A (dd_wM k h (tk, op, nI mv, mf, mb, nI z, tx)) sz)) 0 0 (va_A (dd_wM k h (tk, op, nI mv, mf, mb, nI z, tx)) sz) := by
  refine Met.ofW (cc := b_M_put) (maxL := 2) (ret := none) (by decide) rfl ?_
  intro p e s m args below meth c s₁ B hml hv
  obtain ⟨rfl, hsz, hP, hD0, hK, hN⟩ := hv
  have hx := B.exec
  have hb := B.bytes
  have hr := B.returns
  have htb := dd_tb (atoms_spec (ws := w_M_put) B.pre)
  have hown : s.vm.findClass "DayDeskModel" = some m.cls := findClass_of_methodNamed B.named
  have hlocks := B.notSynchronized
  subst hsz
  have hD := hD0.self (sz := s.heap.size)
  generalize hAe : va_A (dd_wM k h (tk, op, nI mv, mf, mb, nI z, tx)) s.heap.size = A at hD ⊢
  have hA : ∀ q : Nat, s.heap.size ≤ q → A q := fun q h => by rw [← hAe]; exact Or.inr h
  have hS : va_S A s.heap s.heap [] := va_S.rf
  have hP : va_P D dd_cl [((h 12), .inr (4, [.long tk, .ref (h 13), .int (nI mv), .ref (h 14), .ref (h 15), .int (nI z), .ref (h 16)])), ((h 13), .inl (k 0, 200, .inr (.inl op))), ((h 14), .inl (k 1, 520, .inl mf)), ((h 15), .inl (k 0, 520, .inr (.inl mb))), ((h 16), .inl (k 1, 120, .inl tx))] s.heap := hP
  have hD : va_D A [((h 12), .inr (4, [.long tk, .ref (h 13), .int (nI mv), .ref (h 14), .ref (h 15), .int (nI z), .ref (h 16)])), ((h 13), .inl (k 0, 200, .inr (.inl op))), ((h 14), .inl (k 1, 520, .inl mf)), ((h 15), .inl (k 0, 520, .inr (.inl mb))), ((h 16), .inl (k 1, 120, .inl tx))] := hD
  have hl := lv_entry ([.ref (h 12), .int x]) (n := 2) (Nat.le_of_ble_eq_true rfl)
  rw [lg_entry_eq]
  generalize (lg_sl ([.ref (h 12), .int x]) ++ List.replicate (2 - (lg_sl ([.ref (h 12), .int x])).length) Slot.unset).toArray = ls at hl ⊢
  have hl : lv_has ls 2 [(0, .ref (h 12)), (1, .int x)] := hl
  refine lv_aload_n hx hb d_M_put_0 rfl (lv_at hl 0 rfl) ?_
  refine va_get (D := D) (ci := 4) (v := .ref (h 16)) (C := R_M) (T := F_M) (N := 7) hx hb htb i_M hown hK hP 0 rfl rfl 6 (by decide) (htb _ tb_220) (fun _ h9 => h9) rfl d_M_put_1 ?_
  refine lv_aload_n hx hb d_M_put_4 rfl (lv_at hl 0 rfl) ?_
  refine va_get (D := D) (ci := 4) (v := .int (nI z)) (C := R_M) (T := F_M) (N := 7) hx hb htb i_M hown hK hP 0 rfl rfl 5 (by decide) (htb _ tb_219) (fun _ h9 => h9) rfl d_M_put_5 ?_
  refine lv_iload_n hx hb d_M_put_8 rfl (lv_at hl 1 rfl) ?_
  refine dd_iast (j := z) hx hb hK hP hD hS 4 1 rfl rfl rfl hz (by decide) d_M_put_9 (fun H locs hP hD hS => ?_)
  have hP : va_P D dd_cl [((h 12), .inr (4, [.long tk, .ref (h 13), .int (nI mv), .ref (h 14), .ref (h 15), .int (nI z), .ref (h 16)])), ((h 13), .inl (k 0, 200, .inr (.inl op))), ((h 14), .inl (k 1, 520, .inl mf)), ((h 15), .inl (k 0, 520, .inr (.inl mb))), ((h 16), .inl (k 1, 120, .inl (upd tx z x)))] H := hP
  have hD : va_D A [((h 12), .inr (4, [.long tk, .ref (h 13), .int (nI mv), .ref (h 14), .ref (h 15), .int (nI z), .ref (h 16)])), ((h 13), .inl (k 0, 200, .inr (.inl op))), ((h 14), .inl (k 1, 520, .inl mf)), ((h 15), .inl (k 0, 520, .inr (.inl mb))), ((h 16), .inl (k 1, 120, .inl (upd tx z x)))] := hD
  refine lv_aload_n hx hb d_M_put_10 rfl (lv_at hl 0 rfl) ?_
  refine lv_dup hx hb d_M_put_11 rfl ?_
  refine va_get (D := D) (ci := 4) (v := .int (nI z)) (C := R_M) (T := F_M) (N := 7) hx hb htb i_M hown hK hP 0 rfl rfl 5 (by decide) (htb _ tb_219) (fun _ h9 => h9) rfl d_M_put_12 ?_
  refine lv_iconst (v := 1) hx hb d_M_put_15 (by decide) ?_
  refine lv_iadd hx hb d_M_put_16 ?_
  refine lv_topi (fun y_1 ey_1 => ?_)
  obtain rfl : y_1 = (nI (z + 1)) := ey_1.trans (nI_1 z)
  refine va_put (D := D) (ci := 4) (v := .int (nI (z + 1))) (ty := .int) (C := R_M) (T := F_M) (N := 7) hx hb htb i_M t_M t_M_ok n_M hown hK hP hD hS 0 rfl rfl 5 (by decide) (htb _ tb_219) (fun _ h9 => h9) rfl (by decide +kernel) rfl rfl (Nat.le_of_ble_eq_true rfl) d_M_put_17 (fun H locs hP hD hS => ?_)
  have hP : va_P D dd_cl [((h 12), .inr (4, [.long tk, .ref (h 13), .int (nI mv), .ref (h 14), .ref (h 15), .int (nI (z + 1)), .ref (h 16)])), ((h 13), .inl (k 0, 200, .inr (.inl op))), ((h 14), .inl (k 1, 520, .inl mf)), ((h 15), .inl (k 0, 520, .inr (.inl mb))), ((h 16), .inl (k 1, 120, .inl (upd tx z x)))] H := hP
  have hD : va_D A [((h 12), .inr (4, [.long tk, .ref (h 13), .int (nI mv), .ref (h 14), .ref (h 15), .int (nI (z + 1)), .ref (h 16)])), ((h 13), .inl (k 0, 200, .inr (.inl op))), ((h 14), .inl (k 1, 520, .inl mf)), ((h 15), .inl (k 0, 520, .inr (.inl mb))), ((h 16), .inl (k 1, 120, .inl (upd tx z x)))] := hD
  exact W.vret hx hb hr (fun t ht hW => ⟨⟨(tk, op, (nI mv), mf, mb, (nI (z + 1)), (upd tx z x)), rfl, rfl, by rw [ht]; exact hP, hD⟩, hS.F ht⟩) hS.2.2 d_M_put_20
set_option maxHeartbeats 4000000 in
set_option maxRecDepth 100000 in
theorem c_M_begin (l : Launch) (D : va_G) (k : Nat → ClassId) (h : Nat → Nat) (sz : Nat) (tk : Int64) (op : Nat → Int64) (mv : Nat) (mf : Nat → Int32) (mb : Nat → Int64) (wr : Int32) (tx : Nat → Int32) (hmv : mv ≤ 520) : Met l y_M_begin w_M_begin ({ frames := 2, cells := 0, slots := 0, locals := 49 }) (dd_PM D k sz (dd_wM k h (tk, op, nI mv, mf, mb, wr, tx)) [.ref (h 12)]) (dd_Qv D (fun u : dd_MS => u = (tk, dd_bgM op mf mb mv 200, nI 0, mf, mb, wr, tx)) (fun u => dd_wM k h u) (va_A (dd_wM k h (tk, op, nI mv, mf, mb, wr, tx)) sz)) 0 0 (va_A (dd_wM k h (tk, op, nI mv, mf, mb, wr, tx)) sz) := by
  refine Met.ofW (cc := b_M_begin) (maxL := 2) (ret := none) (by decide) rfl ?_
  intro p e s m args below meth c s₁ B hml hv
  obtain ⟨rfl, hsz, hP, hD0, hK, hN⟩ := hv
  have hx := B.exec
  have hb := B.bytes
  have hr := B.returns
  have htb := dd_tb (atoms_spec (ws := w_M_begin) B.pre)
  have hown : s.vm.findClass "DayDeskModel" = some m.cls := findClass_of_methodNamed B.named
  have hlocks := B.notSynchronized
  subst hsz
  have hD := hD0.self (sz := s.heap.size)
  generalize hAe : va_A (dd_wM k h (tk, op, nI mv, mf, mb, wr, tx)) s.heap.size = A at hD ⊢
  have hA : ∀ q : Nat, s.heap.size ≤ q → A q := fun q h => by rw [← hAe]; exact Or.inr h
  have hS : va_S A s.heap s.heap [] := va_S.rf
  have hP : va_P D dd_cl [((h 12), .inr (4, [.long tk, .ref (h 13), .int (nI mv), .ref (h 14), .ref (h 15), .int wr, .ref (h 16)])), ((h 13), .inl (k 0, 200, .inr (.inl op))), ((h 14), .inl (k 1, 520, .inl mf)), ((h 15), .inl (k 0, 520, .inr (.inl mb))), ((h 16), .inl (k 1, 120, .inl tx))] s.heap := hP
  have hD : va_D A [((h 12), .inr (4, [.long tk, .ref (h 13), .int (nI mv), .ref (h 14), .ref (h 15), .int wr, .ref (h 16)])), ((h 13), .inl (k 0, 200, .inr (.inl op))), ((h 14), .inl (k 1, 520, .inl mf)), ((h 15), .inl (k 0, 520, .inr (.inl mb))), ((h 16), .inl (k 1, 120, .inl tx))] := hD
  have hl := lv_entry ([.ref (h 12)]) (n := 2) (Nat.le_of_ble_eq_true rfl)
  rw [lg_entry_eq]
  generalize (lg_sl ([.ref (h 12)]) ++ List.replicate (2 - (lg_sl ([.ref (h 12)])).length) Slot.unset).toArray = ls at hl ⊢
  have hl : lv_has ls 2 [(0, .ref (h 12))] := hl
  refine lv_iconst (v := 0) hx hb d_M_begin_0 (by decide) ?_
  refine lv_istore_n (lv' := [(1, .int 0), (0, .ref (h 12))]) hx hb d_M_begin_1 rfl hl (by decide) rfl (fun ls hl => ?_)
  have hP : va_P D dd_cl (dd_wM k h (tk, dd_bgM op mf mb mv 0, nI mv, mf, mb, wr, tx)) s.heap := by rw [dd_bgM0]; exact hP
  have hD : va_D A (dd_wM k h (tk, dd_bgM op mf mb mv 0, nI mv, mf, mb, wr, tx)) := by rw [dd_bgM0]; exact hD
  refine dd_loop (α := Array Slot × Nat) (I := fun a H locs => (lv_has a.1 2 [(1, .int (nI a.2)), (0, .ref (h 12))]) ∧ (a.2 ≤ 200) ∧ (va_P D dd_cl [((h 12), .inr (4, [.long tk, .ref (h 13), .int (nI mv), .ref (h 14), .ref (h 15), .int wr, .ref (h 16)])), ((h 13), .inl (k 0, 200, .inr (.inl (dd_bgM op mf mb mv a.2)))), ((h 14), .inl (k 1, 520, .inl mf)), ((h 15), .inl (k 0, 520, .inr (.inl mb))), ((h 16), .inl (k 1, 120, .inl tx))] H) ∧ (va_D A [((h 12), .inr (4, [.long tk, .ref (h 13), .int (nI mv), .ref (h 14), .ref (h 15), .int wr, .ref (h 16)])), ((h 13), .inl (k 0, 200, .inr (.inl (dd_bgM op mf mb mv a.2)))), ((h 14), .inl (k 1, 520, .inl mf)), ((h 15), .inl (k 0, 520, .inr (.inl mb))), ((h 16), .inl (k 1, 120, .inl tx))]) ∧ (va_S A s.heap H locs)) (g := fun a => F0 m 2 a.1 []) (μ := fun a => 200 - a.2) (fun a H locs hI ih2 => ?_) (ls, 0) ⟨lv_sub hl [0, 1] rfl, Nat.zero_le 200, hP, hD, hS⟩
  obtain ⟨ls, i⟩ := a
  obtain ⟨hl, hi, hP, hD, hS⟩ := hI
  have hl : lv_has ls 2 [(1, .int (nI i)), (0, .ref (h 12))] := hl
  have hi : i ≤ 200 := hi
  have hP : va_P D dd_cl [((h 12), .inr (4, [.long tk, .ref (h 13), .int (nI mv), .ref (h 14), .ref (h 15), .int wr, .ref (h 16)])), ((h 13), .inl (k 0, 200, .inr (.inl (dd_bgM op mf mb mv i)))), ((h 14), .inl (k 1, 520, .inl mf)), ((h 15), .inl (k 0, 520, .inr (.inl mb))), ((h 16), .inl (k 1, 120, .inl tx))] H := hP
  have hD : va_D A [((h 12), .inr (4, [.long tk, .ref (h 13), .int (nI mv), .ref (h 14), .ref (h 15), .int wr, .ref (h 16)])), ((h 13), .inl (k 0, 200, .inr (.inl (dd_bgM op mf mb mv i)))), ((h 14), .inl (k 1, 520, .inl mf)), ((h 15), .inl (k 0, 520, .inr (.inl mb))), ((h 16), .inl (k 1, 120, .inl tx))] := hD
  have hS : va_S A s.heap H locs := hS
  refine W.eq (g2 := F0 m 2 ls []) rfl ?_
  refine lv_iload_n hx hb d_M_begin_2 rfl (lv_at hl 0 rfl) ?_
  refine lv_sipush (v := 200) hx hb d_M_begin_3 (by decide) ?_
  refine lv_icmp_ge (tgt := 27) hx hb d_M_begin_6 (by decide) (fun c_1 => ?_) (fun c_1 => ?_)
  · have ei : i = 200 := dd_ge200 hi c_1
    rw [ei] at hP hD
    have hP : va_P D dd_cl [((h 12), .inr (4, [.long tk, .ref (h 13), .int (nI mv), .ref (h 14), .ref (h 15), .int wr, .ref (h 16)])), ((h 13), .inl (k 0, 200, .inr (.inl (dd_bgM op mf mb mv 200)))), ((h 14), .inl (k 1, 520, .inl mf)), ((h 15), .inl (k 0, 520, .inr (.inl mb))), ((h 16), .inl (k 1, 120, .inl tx))] H := hP
    have hD : va_D A [((h 12), .inr (4, [.long tk, .ref (h 13), .int (nI mv), .ref (h 14), .ref (h 15), .int wr, .ref (h 16)])), ((h 13), .inl (k 0, 200, .inr (.inl (dd_bgM op mf mb mv 200)))), ((h 14), .inl (k 1, 520, .inl mf)), ((h 15), .inl (k 0, 520, .inr (.inl mb))), ((h 16), .inl (k 1, 120, .inl tx))] := hD
    refine lv_aload_n hx hb d_M_begin_27 rfl (lv_at hl 1 rfl) ?_
    refine lv_iconst (v := 0) hx hb d_M_begin_28 (by decide) ?_
    refine lv_topi (fun y_2 ey_2 => ?_)
    obtain rfl : y_2 = (nI 0) := ey_2.trans nI_0.symm
    refine va_put (D := D) (ci := 4) (v := .int (nI 0)) (ty := .int) (C := R_M) (T := F_M) (N := 7) hx hb htb i_M t_M t_M_ok n_M hown hK hP hD hS 0 rfl rfl 2 (by decide) (htb _ tb_216) (fun _ h9 => h9) rfl (by decide +kernel) rfl rfl (Nat.le_of_ble_eq_true rfl) d_M_begin_29 (fun H locs hP hD hS => ?_)
    have hP : va_P D dd_cl [((h 12), .inr (4, [.long tk, .ref (h 13), .int (nI 0), .ref (h 14), .ref (h 15), .int wr, .ref (h 16)])), ((h 13), .inl (k 0, 200, .inr (.inl (dd_bgM op mf mb mv 200)))), ((h 14), .inl (k 1, 520, .inl mf)), ((h 15), .inl (k 0, 520, .inr (.inl mb))), ((h 16), .inl (k 1, 120, .inl tx))] H := hP
    have hD : va_D A [((h 12), .inr (4, [.long tk, .ref (h 13), .int (nI 0), .ref (h 14), .ref (h 15), .int wr, .ref (h 16)])), ((h 13), .inl (k 0, 200, .inr (.inl (dd_bgM op mf mb mv 200)))), ((h 14), .inl (k 1, 520, .inl mf)), ((h 15), .inl (k 0, 520, .inr (.inl mb))), ((h 16), .inl (k 1, 120, .inl tx))] := hD
    exact W.vret hx hb hr (fun t ht hW => ⟨⟨(tk, (dd_bgM op mf mb mv 200), (nI 0), mf, mb, wr, tx), rfl, rfl, by rw [ht]; exact hP, hD⟩, hS.F ht⟩) hS.2.2 d_M_begin_32
  · have hj : i < 200 := dd_lt200 hi c_1
    refine lv_aload_n hx hb d_M_begin_9 rfl (lv_at hl 1 rfl) ?_
    refine va_get (D := D) (ci := 4) (v := .ref (h 13)) (C := R_M) (T := F_M) (N := 7) hx hb htb i_M hown hK hP 0 rfl rfl 1 (by decide) (htb _ tb_215) (fun _ h9 => h9) rfl d_M_begin_10 ?_
    refine lv_iload_n hx hb d_M_begin_13 rfl (lv_at hl 0 rfl) ?_
    refine lv_aload_n hx hb d_M_begin_14 rfl (lv_at hl 1 rfl) ?_
    refine lv_iload_n hx hb d_M_begin_15 rfl (lv_at hl 0 rfl) ?_
    refine lv_iconst (v := 3) hx hb d_M_begin_16 (by decide) ?_
    have hPc := hP.sub (ws' := [((h 12), .inr (4, [.long tk, .ref (h 13), .int (nI mv), .ref (h 14), .ref (h 15), .int wr, .ref (h 16)])), ((h 13), .inl (k 0, 200, .inr (.inl (dd_bgM op mf mb mv i)))), ((h 14), .inl (k 1, 520, .inl mf)), ((h 15), .inl (k 0, 520, .inr (.inl mb))), ((h 16), .inl (k 1, 120, .inl tx))]) [0, 1, 2, 3, 4] rfl
    refine vp_callSl (va_Run.run (va_runV (As := [.int (nI i), .int 3]) (rest := [.int (nI i), .ref (h 13)]) ⟨hx, hb, hml, hown, htb⟩ (c_M_row l D k h tk (dd_bgM op mf mb mv i) mv mf mb wr tx hmv (nI i) 3) (cwV 2 htb (dd_gV tb_249 tb_250 tb_251 tb_7 tb_252) rfl rfl rfl hd_M_row ⟨Nat.le_of_ble_eq_true rfl, Nat.le_of_ble_eq_true rfl⟩) ⟨dd_PR.bl, va_recv hK hPc (ci := 4) (q0 := 0) rfl rfl, dd_PR.of hPc hK hN⟩ rfl rfl hl.1 rfl (lv_room (Nat.le_of_ble_eq_true rfl)) d_M_begin_17 ⟨Nat.le_of_ble_eq_true rfl, Nat.le_of_ble_eq_true rfl⟩)) (fun r_3 er_3 => ?_)
    subst er_3
    refine lv_topl (fun y_4 ey_4 => ?_)
    obtain rfl : y_4 = (dd_nwM op mf mb mv i) := ey_4.trans (dd_rowbg op mf mb mv hj)
    refine dd_last (j := i) hx hb hK hP hD hS 1 0 rfl rfl rfl hj (by decide) d_M_begin_20 (fun H locs hP hD hS => ?_)
    have hP : va_P D dd_cl [((h 12), .inr (4, [.long tk, .ref (h 13), .int (nI mv), .ref (h 14), .ref (h 15), .int wr, .ref (h 16)])), ((h 13), .inl (k 0, 200, .inr (.inl (vp_updL (dd_bgM op mf mb mv i) i (dd_nwM op mf mb mv i))))), ((h 14), .inl (k 1, 520, .inl mf)), ((h 15), .inl (k 0, 520, .inr (.inl mb))), ((h 16), .inl (k 1, 120, .inl tx))] H := hP
    have hD : va_D A [((h 12), .inr (4, [.long tk, .ref (h 13), .int (nI mv), .ref (h 14), .ref (h 15), .int wr, .ref (h 16)])), ((h 13), .inl (k 0, 200, .inr (.inl (vp_updL (dd_bgM op mf mb mv i) i (dd_nwM op mf mb mv i))))), ((h 14), .inl (k 1, 520, .inl mf)), ((h 15), .inl (k 0, 520, .inr (.inl mb))), ((h 16), .inl (k 1, 120, .inl tx))] := hD
    refine lv_iinc (v := (nI (i + 1))) (lv' := [(1, .int (nI (i + 1))), (0, .ref (h 12))]) hx hb d_M_begin_21 hl (k := 0) rfl (dd_inc i) (by decide) rfl (fun ls hl => ?_)
    refine lv_goto (tgt := 2) hx hb d_M_begin_24 (by decide) ?_
    rw [dd_bgMs] at hP hD
    exact ih2 (ls, (i + 1)) _ _ ⟨lv_sub hl [0, 1] rfl, hj, hP, hD, hS⟩ (by dsimp only; omega)
set_option maxHeartbeats 4000000 in
set_option maxRecDepth 100000 in
theorem c_M_pass (l : Launch) (D : va_G) (k : Nat → ClassId) (h : Nat → Nat) (sz : Nat) (tk : Int64) (op : Nat → Int64) (mv : Nat) (mf : Nat → Int32) (mb : Nat → Int64) (wr : Int32) (tx : Nat → Int32) (hmv : mv ≤ 520) : Met l y_M_pass w_M_pass ({ frames := 3, cells := 0, slots := 0, locals := 70 }) (dd_PM D k sz (dd_wM k h (tk, op, nI mv, mf, mb, wr, tx)) [.ref (h 12)]) (dd_Qi D (fun r (u : dd_MS) => r = dd_pv (dd_tkM (tk + 1)) ∧ u = (tk + 1, dd_psOp tk op mf mb mv, nI (dd_psMv tk mv), mf, mb, wr, tx)) (fun u => dd_wM k h u) (va_A (dd_wM k h (tk, op, nI mv, mf, mb, wr, tx)) sz)) 0 0 (va_A (dd_wM k h (tk, op, nI mv, mf, mb, wr, tx)) sz) := by
  refine Met.ofW (cc := b_M_pass) (maxL := 2) (ret := (some FieldType.int)) (by decide) rfl ?_
  intro p e s m args below meth c s₁ B hml hv
  obtain ⟨rfl, hsz, hP, hD0, hK, hN⟩ := hv
  have hx := B.exec
  have hb := B.bytes
  have hr := B.returns
  have htb := dd_tb (atoms_spec (ws := w_M_pass) B.pre)
  have hown : s.vm.findClass "DayDeskModel" = some m.cls := findClass_of_methodNamed B.named
  have hlocks := B.notSynchronized
  subst hsz
  have hD := hD0.self (sz := s.heap.size)
  generalize hAe : va_A (dd_wM k h (tk, op, nI mv, mf, mb, wr, tx)) s.heap.size = A at hD ⊢
  have hA : ∀ q : Nat, s.heap.size ≤ q → A q := fun q h => by rw [← hAe]; exact Or.inr h
  have hS : va_S A s.heap s.heap [] := va_S.rf
  have hP : va_P D dd_cl [((h 12), .inr (4, [.long tk, .ref (h 13), .int (nI mv), .ref (h 14), .ref (h 15), .int wr, .ref (h 16)])), ((h 13), .inl (k 0, 200, .inr (.inl op))), ((h 14), .inl (k 1, 520, .inl mf)), ((h 15), .inl (k 0, 520, .inr (.inl mb))), ((h 16), .inl (k 1, 120, .inl tx))] s.heap := hP
  have hD : va_D A [((h 12), .inr (4, [.long tk, .ref (h 13), .int (nI mv), .ref (h 14), .ref (h 15), .int wr, .ref (h 16)])), ((h 13), .inl (k 0, 200, .inr (.inl op))), ((h 14), .inl (k 1, 520, .inl mf)), ((h 15), .inl (k 0, 520, .inr (.inl mb))), ((h 16), .inl (k 1, 120, .inl tx))] := hD
  have hl := lv_entry ([.ref (h 12)]) (n := 2) (Nat.le_of_ble_eq_true rfl)
  rw [lg_entry_eq]
  generalize (lg_sl ([.ref (h 12)]) ++ List.replicate (2 - (lg_sl ([.ref (h 12)])).length) Slot.unset).toArray = ls at hl ⊢
  have hl : lv_has ls 2 [(0, .ref (h 12))] := hl
  refine lv_aload_n hx hb d_M_pass_0 rfl (lv_at hl 0 rfl) ?_
  refine lv_dup hx hb d_M_pass_1 rfl ?_
  refine va_get (D := D) (ci := 4) (v := .long tk) (C := R_M) (T := F_M) (N := 7) hx hb htb i_M hown hK hP 0 rfl rfl 0 (by decide) (htb _ tb_214) (fun _ h9 => h9) rfl d_M_pass_2 ?_
  refine lv_lconst (v := 1) hx hb d_M_pass_5 (by decide) ?_
  refine lv_ladd hx hb d_M_pass_6 ?_
  refine va_put (D := D) (ci := 4) (v := .long (tk + 1)) (ty := .long) (C := R_M) (T := F_M) (N := 7) hx hb htb i_M t_M t_M_ok n_M hown hK hP hD hS 0 rfl rfl 0 (by decide) (htb _ tb_214) (fun _ h9 => h9) rfl (by decide +kernel) rfl rfl (Nat.le_of_ble_eq_true rfl) d_M_pass_7 (fun H locs hP hD hS => ?_)
  have hP : va_P D dd_cl [((h 12), .inr (4, [.long (tk + 1), .ref (h 13), .int (nI mv), .ref (h 14), .ref (h 15), .int wr, .ref (h 16)])), ((h 13), .inl (k 0, 200, .inr (.inl op))), ((h 14), .inl (k 1, 520, .inl mf)), ((h 15), .inl (k 0, 520, .inr (.inl mb))), ((h 16), .inl (k 1, 120, .inl tx))] H := hP
  have hD : va_D A [((h 12), .inr (4, [.long (tk + 1), .ref (h 13), .int (nI mv), .ref (h 14), .ref (h 15), .int wr, .ref (h 16)])), ((h 13), .inl (k 0, 200, .inr (.inl op))), ((h 14), .inl (k 1, 520, .inl mf)), ((h 15), .inl (k 0, 520, .inr (.inl mb))), ((h 16), .inl (k 1, 120, .inl tx))] := hD
  refine lv_aload_n hx hb d_M_pass_10 rfl (lv_at hl 0 rfl) ?_
  have hPc := hP.sub (ws' := [((h 12), .inr (4, [.long (tk + 1), .ref (h 13), .int (nI mv), .ref (h 14), .ref (h 15), .int wr, .ref (h 16)])), ((h 13), .inl (k 0, 200, .inr (.inl op))), ((h 14), .inl (k 1, 520, .inl mf)), ((h 15), .inl (k 0, 520, .inr (.inl mb))), ((h 16), .inl (k 1, 120, .inl tx))]) [0, 1, 2, 3, 4] rfl
  refine vp_callSi (va_Run.run (va_runV (As := []) (rest := []) ⟨hx, hb, hml, hown, htb⟩ (c_M_tick l D k h (tk + 1) op mv mf mb wr tx) (cwV 0 htb (dd_gV tb_240 tb_242 tb_p0 tb_7 tb_243) rfl rfl rfl hd_M_tick ⟨Nat.le_of_ble_eq_true rfl, Nat.le_of_ble_eq_true rfl⟩) ⟨dd_PR.bl, va_recv hK hPc (ci := 4) (q0 := 0) rfl rfl, dd_PR.of hPc hK hN⟩ rfl rfl hl.1 rfl (lv_room (Nat.le_of_ble_eq_true rfl)) d_M_pass_11 ⟨Nat.le_of_ble_eq_true rfl, Nat.le_of_ble_eq_true rfl⟩)) (fun r_1 er_1 => ?_)
  subst er_1
  refine lv_istore_n (lv' := [(1, .int (dd_tkM (tk + 1))), (0, .ref (h 12))]) hx hb d_M_pass_14 rfl hl (by decide) rfl (fun ls hl => ?_)
  refine lv_iload_n hx hb d_M_pass_15 rfl (lv_at hl 0 rfl) ?_
  refine lv_if_ne (tgt := 23) hx hb d_M_pass_16 (by decide) (fun c_2 => ?_) (fun c_2 => ?_)
  · refine lv_iload_n hx hb d_M_pass_23 rfl (lv_at hl 0 rfl) ?_
    refine vp_callSi (va_Run.run (va_runS (As := [.int (dd_tkM (tk + 1))]) (rest := []) ⟨hx, hb, hml, hown, htb⟩ (c_M_isResolved l (dd_tkM (tk + 1))) (va_cwS 1 htb (dd_gS tb_256 tb_257 tb_7 tb_258) rfl rfl rfl hd_M_isResolved.2 ⟨Nat.le_of_ble_eq_true rfl, Nat.le_of_ble_eq_true rfl⟩) ⟨dd_PS.bl, dd_PS.of⟩ rfl rfl hl.1 rfl (lv_room (Nat.le_of_ble_eq_true rfl)) d_M_pass_24 ⟨Nat.le_of_ble_eq_true rfl, Nat.le_of_ble_eq_true rfl⟩)) (fun r_3 er_3 => ?_)
    subst er_3
    refine dd_jn (α := Int32) (P := fun z => z = (dd_rsv (dd_tkM (tk + 1)))) (g := fun z => F0 m 35 ls [.int z]) (fun z (ez : z = (dd_rsv (dd_tkM (tk + 1)))) => ?_) (fun jn35 => ?_)
    · subst ez
      refine W.eq (g2 := F0 m 35 ls [.int (dd_rsv (dd_tkM (tk + 1)))]) rfl ?_
      refine dd_jn (α := Int32) (P := fun z => z = (if ((dd_tkM (tk + 1)) : Int32) = 900 then 2 else 0)) (g := fun z => F0 m 47 ls [.int z, .int (dd_rsv (dd_tkM (tk + 1)))]) (fun z (ez : z = (if ((dd_tkM (tk + 1)) : Int32) = 900 then 2 else 0)) => ?_) (fun jn47 => ?_)
      · subst ez
        refine W.eq (g2 := F0 m 47 ls [.int (if ((dd_tkM (tk + 1)) : Int32) = 900 then 2 else 0), .int (dd_rsv (dd_tkM (tk + 1)))]) rfl ?_
        refine lv_iadd hx hb d_M_pass_47 ?_
        refine dd_jn (α := Int32) (P := fun z => z = (if ((dd_tkM (tk + 1)) : Int32) = 0 then 4 else 0)) (g := fun z => F0 m 57 ls [.int z, .int ((dd_rsv (dd_tkM (tk + 1))) + (if ((dd_tkM (tk + 1)) : Int32) = 900 then 2 else 0))]) (fun z (ez : z = (if ((dd_tkM (tk + 1)) : Int32) = 0 then 4 else 0)) => ?_) (fun jn57 => ?_)
        · subst ez
          refine W.eq (g2 := F0 m 57 ls [.int (if ((dd_tkM (tk + 1)) : Int32) = 0 then 4 else 0), .int ((dd_rsv (dd_tkM (tk + 1))) + (if ((dd_tkM (tk + 1)) : Int32) = 900 then 2 else 0))]) rfl ?_
          refine lv_iadd hx hb d_M_pass_57 ?_
          have hP : va_P D dd_cl (dd_wM k h (tk + 1, dd_psOp tk op mf mb mv, nI (dd_psMv tk mv), mf, mb, wr, tx)) H := by rw [dd_psOp, dd_psMv, if_neg c_2, if_neg c_2]; exact hP
          have hD : va_D A (dd_wM k h (tk + 1, dd_psOp tk op mf mb mv, nI (dd_psMv tk mv), mf, mb, wr, tx)) := by rw [dd_psOp, dd_psMv, if_neg c_2, if_neg c_2]; exact hD
          exact W.iret (v := (((dd_rsv (dd_tkM (tk + 1))) + (if ((dd_tkM (tk + 1)) : Int32) = 900 then 2 else 0)) + (if ((dd_tkM (tk + 1)) : Int32) = 0 then 4 else 0))) hx hb hr (fun t ht hW => ⟨⟨(((dd_rsv (dd_tkM (tk + 1))) + (if ((dd_tkM (tk + 1)) : Int32) = 900 then 2 else 0)) + (if ((dd_tkM (tk + 1)) : Int32) = 0 then 4 else 0)), (tk + 1, dd_psOp tk op mf mb mv, nI (dd_psMv tk mv), mf, mb, wr, tx), rfl, ⟨rfl, rfl⟩, by rw [ht]; exact hP, hD⟩, hS.F ht⟩) hS.2.2 d_M_pass_58
        refine lv_iload_n hx hb d_M_pass_48 rfl (lv_at hl 0 rfl) ?_
        refine lv_if_ne (tgt := 56) hx hb d_M_pass_49 (by decide) (fun c_4 => ?_) (fun c_4 => ?_)
        · refine lv_iconst (v := 0) hx hb d_M_pass_56 (by decide) ?_
          exact jn57 _ ((if_neg c_4).symm)
        · refine lv_iconst (v := 4) hx hb d_M_pass_52 (by decide) ?_
          refine lv_goto (tgt := 57) hx hb d_M_pass_53 (by decide) ?_
          exact jn57 _ ((if_pos c_4).symm)
      refine lv_iload_n hx hb d_M_pass_35 rfl (lv_at hl 0 rfl) ?_
      refine lv_sipush (v := 900) hx hb d_M_pass_36 (by decide) ?_
      refine lv_icmp_ne (tgt := 46) hx hb d_M_pass_39 (by decide) (fun c_5 => ?_) (fun c_5 => ?_)
      · refine lv_iconst (v := 0) hx hb d_M_pass_46 (by decide) ?_
        exact jn47 _ ((if_neg c_5).symm)
      · refine lv_iconst (v := 2) hx hb d_M_pass_42 (by decide) ?_
        refine lv_goto (tgt := 47) hx hb d_M_pass_43 (by decide) ?_
        exact jn47 _ ((if_pos c_5).symm)
    refine lv_if_eq (tgt := 34) hx hb d_M_pass_27 (by decide) (fun c_6 => ?_) (fun c_6 => ?_)
    · refine lv_iconst (v := 0) hx hb d_M_pass_34 (by decide) ?_
      exact jn35 _ c_6.symm
    · refine lv_iconst (v := 1) hx hb d_M_pass_30 (by decide) ?_
      refine lv_goto (tgt := 35) hx hb d_M_pass_31 (by decide) ?_
      exact jn35 _ (dd_rsv1 c_6)
  · refine lv_aload_n hx hb d_M_pass_19 rfl (lv_at hl 1 rfl) ?_
    have hPc := hP.sub (ws' := [((h 12), .inr (4, [.long (tk + 1), .ref (h 13), .int (nI mv), .ref (h 14), .ref (h 15), .int wr, .ref (h 16)])), ((h 13), .inl (k 0, 200, .inr (.inl op))), ((h 14), .inl (k 1, 520, .inl mf)), ((h 15), .inl (k 0, 520, .inr (.inl mb))), ((h 16), .inl (k 1, 120, .inl tx))]) [0, 1, 2, 3, 4] rfl
    have hDc := hD.sub (ws' := [((h 12), .inr (4, [.long (tk + 1), .ref (h 13), .int (nI mv), .ref (h 14), .ref (h 15), .int wr, .ref (h 16)])), ((h 13), .inl (k 0, 200, .inr (.inl op))), ((h 14), .inl (k 1, 520, .inl mf)), ((h 15), .inl (k 0, 520, .inr (.inl mb))), ((h 16), .inl (k 1, 120, .inl tx))]) [0, 1, 2, 3, 4] (by decide) rfl
    refine dd_mv (wc := [((h 12), .inr (4, [.long (tk + 1), .ref (h 13), .int (nI mv), .ref (h 14), .ref (h 15), .int wr, .ref (h 16)])), ((h 13), .inl (k 0, 200, .inr (.inl op))), ((h 14), .inl (k 1, 520, .inl mf)), ((h 15), .inl (k 0, 520, .inr (.inl mb))), ((h 16), .inl (k 1, 120, .inl tx))]) (wr := []) (va_runV (As := []) (rest := []) ⟨hx, hb, hml, hown, htb⟩ (c_M_begin l D k h H.size (tk + 1) op mv mf mb wr tx hmv) (cwV 0 htb (dd_gV tb_245 tb_247 tb_p1 tb_7 tb_248) rfl rfl rfl hd_M_begin ⟨Nat.le_of_ble_eq_true rfl, Nat.le_of_ble_eq_true rfl⟩) ⟨dd_PM.bl, va_recv hK hPc (ci := 4) (q0 := 0) rfl rfl, dd_PM.of hPc hDc hK hN⟩ rfl rfl hl.1 rfl (lv_room (Nat.le_of_ble_eq_true rfl)) d_M_pass_20 ⟨Nat.le_of_ble_eq_true rfl, Nat.le_of_ble_eq_true rfl⟩) hP hD hS hA [0, 1, 2, 3, 4] [] rfl rfl (by decide) (by decide) (fun  u H locs hw hP hD hS => ?_)
    subst hw
    have hP : va_P D dd_cl [((h 12), .inr (4, [.long (tk + 1), .ref (h 13), .int (nI 0), .ref (h 14), .ref (h 15), .int wr, .ref (h 16)])), ((h 13), .inl (k 0, 200, .inr (.inl (dd_bgM op mf mb mv 200)))), ((h 14), .inl (k 1, 520, .inl mf)), ((h 15), .inl (k 0, 520, .inr (.inl mb))), ((h 16), .inl (k 1, 120, .inl tx))] H := hP.sub [0, 1, 2, 3, 4] rfl
    have hD : va_D A [((h 12), .inr (4, [.long (tk + 1), .ref (h 13), .int (nI 0), .ref (h 14), .ref (h 15), .int wr, .ref (h 16)])), ((h 13), .inl (k 0, 200, .inr (.inl (dd_bgM op mf mb mv 200)))), ((h 14), .inl (k 1, 520, .inl mf)), ((h 15), .inl (k 0, 520, .inr (.inl mb))), ((h 16), .inl (k 1, 120, .inl tx))] := hD.sub [0, 1, 2, 3, 4] (by decide) rfl
    refine lv_iload_n hx hb d_M_pass_23 rfl (lv_at hl 0 rfl) ?_
    refine vp_callSi (va_Run.run (va_runS (As := [.int (dd_tkM (tk + 1))]) (rest := []) ⟨hx, hb, hml, hown, htb⟩ (c_M_isResolved l (dd_tkM (tk + 1))) (va_cwS 1 htb (dd_gS tb_256 tb_257 tb_7 tb_258) rfl rfl rfl hd_M_isResolved.2 ⟨Nat.le_of_ble_eq_true rfl, Nat.le_of_ble_eq_true rfl⟩) ⟨dd_PS.bl, dd_PS.of⟩ rfl rfl hl.1 rfl (lv_room (Nat.le_of_ble_eq_true rfl)) d_M_pass_24 ⟨Nat.le_of_ble_eq_true rfl, Nat.le_of_ble_eq_true rfl⟩)) (fun r_7 er_7 => ?_)
    subst er_7
    refine dd_jn (α := Int32) (P := fun z => z = (dd_rsv (dd_tkM (tk + 1)))) (g := fun z => F0 m 35 ls [.int z]) (fun z (ez : z = (dd_rsv (dd_tkM (tk + 1)))) => ?_) (fun jn35 => ?_)
    · subst ez
      refine W.eq (g2 := F0 m 35 ls [.int (dd_rsv (dd_tkM (tk + 1)))]) rfl ?_
      refine dd_jn (α := Int32) (P := fun z => z = (if ((dd_tkM (tk + 1)) : Int32) = 900 then 2 else 0)) (g := fun z => F0 m 47 ls [.int z, .int (dd_rsv (dd_tkM (tk + 1)))]) (fun z (ez : z = (if ((dd_tkM (tk + 1)) : Int32) = 900 then 2 else 0)) => ?_) (fun jn47 => ?_)
      · subst ez
        refine W.eq (g2 := F0 m 47 ls [.int (if ((dd_tkM (tk + 1)) : Int32) = 900 then 2 else 0), .int (dd_rsv (dd_tkM (tk + 1)))]) rfl ?_
        refine lv_iadd hx hb d_M_pass_47 ?_
        refine dd_jn (α := Int32) (P := fun z => z = (if ((dd_tkM (tk + 1)) : Int32) = 0 then 4 else 0)) (g := fun z => F0 m 57 ls [.int z, .int ((dd_rsv (dd_tkM (tk + 1))) + (if ((dd_tkM (tk + 1)) : Int32) = 900 then 2 else 0))]) (fun z (ez : z = (if ((dd_tkM (tk + 1)) : Int32) = 0 then 4 else 0)) => ?_) (fun jn57 => ?_)
        · subst ez
          refine W.eq (g2 := F0 m 57 ls [.int (if ((dd_tkM (tk + 1)) : Int32) = 0 then 4 else 0), .int ((dd_rsv (dd_tkM (tk + 1))) + (if ((dd_tkM (tk + 1)) : Int32) = 900 then 2 else 0))]) rfl ?_
          refine lv_iadd hx hb d_M_pass_57 ?_
          have hP : va_P D dd_cl (dd_wM k h (tk + 1, dd_psOp tk op mf mb mv, nI (dd_psMv tk mv), mf, mb, wr, tx)) H := by rw [dd_psOp, dd_psMv, if_pos c_2, if_pos c_2]; exact hP
          have hD : va_D A (dd_wM k h (tk + 1, dd_psOp tk op mf mb mv, nI (dd_psMv tk mv), mf, mb, wr, tx)) := by rw [dd_psOp, dd_psMv, if_pos c_2, if_pos c_2]; exact hD
          exact W.iret (v := (((dd_rsv (dd_tkM (tk + 1))) + (if ((dd_tkM (tk + 1)) : Int32) = 900 then 2 else 0)) + (if ((dd_tkM (tk + 1)) : Int32) = 0 then 4 else 0))) hx hb hr (fun t ht hW => ⟨⟨(((dd_rsv (dd_tkM (tk + 1))) + (if ((dd_tkM (tk + 1)) : Int32) = 900 then 2 else 0)) + (if ((dd_tkM (tk + 1)) : Int32) = 0 then 4 else 0)), (tk + 1, dd_psOp tk op mf mb mv, nI (dd_psMv tk mv), mf, mb, wr, tx), rfl, ⟨rfl, rfl⟩, by rw [ht]; exact hP, hD⟩, hS.F ht⟩) hS.2.2 d_M_pass_58
        refine lv_iload_n hx hb d_M_pass_48 rfl (lv_at hl 0 rfl) ?_
        refine lv_if_ne (tgt := 56) hx hb d_M_pass_49 (by decide) (fun c_8 => ?_) (fun c_8 => ?_)
        · refine lv_iconst (v := 0) hx hb d_M_pass_56 (by decide) ?_
          exact jn57 _ ((if_neg c_8).symm)
        · refine lv_iconst (v := 4) hx hb d_M_pass_52 (by decide) ?_
          refine lv_goto (tgt := 57) hx hb d_M_pass_53 (by decide) ?_
          exact jn57 _ ((if_pos c_8).symm)
      refine lv_iload_n hx hb d_M_pass_35 rfl (lv_at hl 0 rfl) ?_
      refine lv_sipush (v := 900) hx hb d_M_pass_36 (by decide) ?_
      refine lv_icmp_ne (tgt := 46) hx hb d_M_pass_39 (by decide) (fun c_9 => ?_) (fun c_9 => ?_)
      · refine lv_iconst (v := 0) hx hb d_M_pass_46 (by decide) ?_
        exact jn47 _ ((if_neg c_9).symm)
      · refine lv_iconst (v := 2) hx hb d_M_pass_42 (by decide) ?_
        refine lv_goto (tgt := 47) hx hb d_M_pass_43 (by decide) ?_
        exact jn47 _ ((if_pos c_9).symm)
    refine lv_if_eq (tgt := 34) hx hb d_M_pass_27 (by decide) (fun c_10 => ?_) (fun c_10 => ?_)
    · refine lv_iconst (v := 0) hx hb d_M_pass_34 (by decide) ?_
      exact jn35 _ c_10.symm
    · refine lv_iconst (v := 1) hx hb d_M_pass_30 (by decide) ?_
      refine lv_goto (tgt := 35) hx hb d_M_pass_31 (by decide) ?_
      exact jn35 _ (dd_rsv1 c_10)
set_option maxHeartbeats 4000000 in
set_option maxRecDepth 100000 in
theorem c_M_skip_bad (l : Launch) (D : va_G) (k : Nat → ClassId) (h : Nat → Nat) (sz : Nat) (tk : Int64) (op : Nat → Int64) (mv : Nat) (mf : Nat → Int32) (mb : Nat → Int64) (wr : Int32) (tx : Nat → Int32) (n : Int32) (hbad : n < 1 ∨ ¬ n ≤ 100000) : Met l y_M_skip w_M_skip ({ frames := 4, cells := 0, slots := 0, locals := 91 }) (dd_PM D k sz (dd_wM k h (tk, op, nI mv, mf, mb, wr, tx)) [.ref (h 12), .int n]) (dd_Qi D (fun r (u : dd_MS) => r = -1 ∧ u = (tk, op, nI mv, mf, mb, wr, tx)) (fun u => dd_wM k h u) (va_A (dd_wM k h (tk, op, nI mv, mf, mb, wr, tx)) sz)) 0 0 (va_A (dd_wM k h (tk, op, nI mv, mf, mb, wr, tx)) sz) := by
  refine Met.ofW (cc := b_M_skip) (maxL := 4) (ret := (some FieldType.int)) (by decide) rfl ?_
  intro p e s m args below meth c s₁ B hml hv
  obtain ⟨rfl, hsz, hP, hD0, hK, hN⟩ := hv
  have hx := B.exec
  have hb := B.bytes
  have hr := B.returns
  have htb := dd_tb (atoms_spec (ws := w_M_skip) B.pre)
  have hown : s.vm.findClass "DayDeskModel" = some m.cls := findClass_of_methodNamed B.named
  have hlocks := B.notSynchronized
  subst hsz
  have hD := hD0.self (sz := s.heap.size)
  generalize hAe : va_A (dd_wM k h (tk, op, nI mv, mf, mb, wr, tx)) s.heap.size = A at hD ⊢
  have hA : ∀ q : Nat, s.heap.size ≤ q → A q := fun q h => by rw [← hAe]; exact Or.inr h
  have hS : va_S A s.heap s.heap [] := va_S.rf
  have hP : va_P D dd_cl [((h 12), .inr (4, [.long tk, .ref (h 13), .int (nI mv), .ref (h 14), .ref (h 15), .int wr, .ref (h 16)])), ((h 13), .inl (k 0, 200, .inr (.inl op))), ((h 14), .inl (k 1, 520, .inl mf)), ((h 15), .inl (k 0, 520, .inr (.inl mb))), ((h 16), .inl (k 1, 120, .inl tx))] s.heap := hP
  have hD : va_D A [((h 12), .inr (4, [.long tk, .ref (h 13), .int (nI mv), .ref (h 14), .ref (h 15), .int wr, .ref (h 16)])), ((h 13), .inl (k 0, 200, .inr (.inl op))), ((h 14), .inl (k 1, 520, .inl mf)), ((h 15), .inl (k 0, 520, .inr (.inl mb))), ((h 16), .inl (k 1, 120, .inl tx))] := hD
  have hl := lv_entry ([.ref (h 12), .int n]) (n := 4) (Nat.le_of_ble_eq_true rfl)
  rw [lg_entry_eq]
  generalize (lg_sl ([.ref (h 12), .int n]) ++ List.replicate (4 - (lg_sl ([.ref (h 12), .int n])).length) Slot.unset).toArray = ls at hl ⊢
  have hl : lv_has ls 4 [(0, .ref (h 12)), (1, .int n)] := hl
  refine lv_iload_n hx hb d_M_skip_0 rfl (lv_at hl 1 rfl) ?_
  refine lv_iconst (v := 1) hx hb d_M_skip_1 (by decide) ?_
  refine lv_icmp_lt (tgt := 11) hx hb d_M_skip_2 (by decide) (fun c_1 => ?_) (fun c_1 => ?_)
  · refine lv_iconst (v := (-1)) hx hb d_M_skip_11 (by decide) ?_
    exact W.iret (v := (-1)) hx hb hr (fun t ht hW => ⟨⟨(-1), (tk, op, nI mv, mf, mb, wr, tx), rfl, ⟨rfl, rfl⟩, by rw [ht]; exact hP, hD⟩, hS.F ht⟩) hS.2.2 d_M_skip_12
  · refine lv_iload_n hx hb d_M_skip_5 rfl (lv_at hl 1 rfl) ?_
    refine lv_ldc (v := 100000) hx hb hown (htb _ tb_263) d_M_skip_6 ?_
    refine lv_icmp_le (tgt := 13) hx hb d_M_skip_8 (by decide) (fun c_2 => ?_) (fun c_2 => ?_)
    · exact absurd (hbad.resolve_left c_1) (not_not_intro c_2)
    · refine lv_iconst (v := (-1)) hx hb d_M_skip_11 (by decide) ?_
      exact W.iret (v := (-1)) hx hb hr (fun t ht hW => ⟨⟨(-1), (tk, op, nI mv, mf, mb, wr, tx), rfl, ⟨rfl, rfl⟩, by rw [ht]; exact hP, hD⟩, hS.F ht⟩) hS.2.2 d_M_skip_12
set_option maxHeartbeats 4000000 in
set_option maxRecDepth 100000 in
theorem c_M_skip (l : Launch) (D : va_G) (k : Nat → ClassId) (h : Nat → Nat) (sz : Nat) (tk : Int64) (op : Nat → Int64) (mv : Nat) (mf : Nat → Int32) (mb : Nat → Int64) (wr : Int32) (tx : Nat → Int32) (hmv : mv ≤ 520) (N : Nat) (hN1 : 1 ≤ N) (hN2 : N ≤ 100000) : Met l y_M_skip w_M_skip ({ frames := 4, cells := 0, slots := 0, locals := 91 }) (dd_PM D k sz (dd_wM k h (tk, op, nI mv, mf, mb, wr, tx)) [.ref (h 12), .int (nI N)]) (dd_Qi D (fun r (u : dd_MS) => r = (dd_itM mf mb tk op mv N).2.2.2 ∧ u = ((dd_itM mf mb tk op mv N).1, (dd_itM mf mb tk op mv N).2.1, nI (dd_itM mf mb tk op mv N).2.2.1, mf, mb, wr, tx)) (fun u => dd_wM k h u) (va_A (dd_wM k h (tk, op, nI mv, mf, mb, wr, tx)) sz)) 0 0 (va_A (dd_wM k h (tk, op, nI mv, mf, mb, wr, tx)) sz) := by
  refine Met.ofW (cc := b_M_skip) (maxL := 4) (ret := (some FieldType.int)) (by decide) rfl ?_
  intro p e s m args below meth c s₁ B hml hv
  obtain ⟨rfl, hsz, hP, hD0, hK, hN⟩ := hv
  have hx := B.exec
  have hb := B.bytes
  have hr := B.returns
  have htb := dd_tb (atoms_spec (ws := w_M_skip) B.pre)
  have hown : s.vm.findClass "DayDeskModel" = some m.cls := findClass_of_methodNamed B.named
  have hlocks := B.notSynchronized
  subst hsz
  have hD := hD0.self (sz := s.heap.size)
  generalize hAe : va_A (dd_wM k h (tk, op, nI mv, mf, mb, wr, tx)) s.heap.size = A at hD ⊢
  have hA : ∀ q : Nat, s.heap.size ≤ q → A q := fun q h => by rw [← hAe]; exact Or.inr h
  have hS : va_S A s.heap s.heap [] := va_S.rf
  have hP : va_P D dd_cl [((h 12), .inr (4, [.long tk, .ref (h 13), .int (nI mv), .ref (h 14), .ref (h 15), .int wr, .ref (h 16)])), ((h 13), .inl (k 0, 200, .inr (.inl op))), ((h 14), .inl (k 1, 520, .inl mf)), ((h 15), .inl (k 0, 520, .inr (.inl mb))), ((h 16), .inl (k 1, 120, .inl tx))] s.heap := hP
  have hD : va_D A [((h 12), .inr (4, [.long tk, .ref (h 13), .int (nI mv), .ref (h 14), .ref (h 15), .int wr, .ref (h 16)])), ((h 13), .inl (k 0, 200, .inr (.inl op))), ((h 14), .inl (k 1, 520, .inl mf)), ((h 15), .inl (k 0, 520, .inr (.inl mb))), ((h 16), .inl (k 1, 120, .inl tx))] := hD
  have hl := lv_entry ([.ref (h 12), .int (nI N)]) (n := 4) (Nat.le_of_ble_eq_true rfl)
  rw [lg_entry_eq]
  generalize (lg_sl ([.ref (h 12), .int (nI N)]) ++ List.replicate (4 - (lg_sl ([.ref (h 12), .int (nI N)])).length) Slot.unset).toArray = ls at hl ⊢
  have hl : lv_has ls 4 [(0, .ref (h 12)), (1, .int (nI N))] := hl
  refine lv_iload_n hx hb d_M_skip_0 rfl (lv_at hl 1 rfl) ?_
  refine lv_iconst (v := 1) hx hb d_M_skip_1 (by decide) ?_
  refine lv_icmp_lt (tgt := 11) hx hb d_M_skip_2 (by decide) (fun c_1 => ?_) (fun c_1 => ?_)
  · exact absurd (nI_le (a := 1) (b := N) hN1 (by omega)) (dd_nle_of_lt c_1)
  · refine lv_iload_n hx hb d_M_skip_5 rfl (lv_at hl 1 rfl) ?_
    refine lv_ldc (v := 100000) hx hb hown (htb _ tb_263) d_M_skip_6 ?_
    refine lv_icmp_le (tgt := 13) hx hb d_M_skip_8 (by decide) (fun c_2 => ?_) (fun c_2 => ?_)
    · refine lv_iconst (v := 0) hx hb d_M_skip_13 (by decide) ?_
      refine lv_istore_n (lv' := [(2, .int 0), (0, .ref (h 12)), (1, .int (nI N))]) hx hb d_M_skip_14 rfl hl (by decide) rfl (fun ls hl => ?_)
      refine lv_iconst (v := 0) hx hb d_M_skip_15 (by decide) ?_
      refine lv_istore_n (lv' := [(3, .int 0), (2, .int 0), (0, .ref (h 12)), (1, .int (nI N))]) hx hb d_M_skip_16 rfl hl (by decide) rfl (fun ls hl => ?_)
      refine dd_loop (α := Array Slot × Nat) (I := fun a H locs => (lv_has a.1 4 [(3, .int (nI a.2)), (2, .int ((dd_itM mf mb tk op mv a.2).2.2.2)), (1, .int (nI N)), (0, .ref (h 12))]) ∧ (a.2 ≤ N) ∧ (va_P D dd_cl [((h 12), .inr (4, [.long ((dd_itM mf mb tk op mv a.2).1), .ref (h 13), .int (nI (dd_itM mf mb tk op mv a.2).2.2.1), .ref (h 14), .ref (h 15), .int wr, .ref (h 16)])), ((h 13), .inl (k 0, 200, .inr (.inl ((dd_itM mf mb tk op mv a.2).2.1)))), ((h 14), .inl (k 1, 520, .inl mf)), ((h 15), .inl (k 0, 520, .inr (.inl mb))), ((h 16), .inl (k 1, 120, .inl tx))] H) ∧ (va_D A [((h 12), .inr (4, [.long ((dd_itM mf mb tk op mv a.2).1), .ref (h 13), .int (nI (dd_itM mf mb tk op mv a.2).2.2.1), .ref (h 14), .ref (h 15), .int wr, .ref (h 16)])), ((h 13), .inl (k 0, 200, .inr (.inl ((dd_itM mf mb tk op mv a.2).2.1)))), ((h 14), .inl (k 1, 520, .inl mf)), ((h 15), .inl (k 0, 520, .inr (.inl mb))), ((h 16), .inl (k 1, 120, .inl tx))]) ∧ (va_S A s.heap H locs)) (g := fun a => F0 m 17 a.1 []) (μ := fun a => N - a.2) (fun a H locs hI ih17 => ?_) (ls, 0) ⟨lv_sub hl [0, 1, 3, 2] rfl, Nat.zero_le N, hP, hD, hS⟩
      obtain ⟨ls, i⟩ := a
      obtain ⟨hl, hi, hP, hD, hS⟩ := hI
      have hl : lv_has ls 4 [(3, .int (nI i)), (2, .int ((dd_itM mf mb tk op mv i).2.2.2)), (1, .int (nI N)), (0, .ref (h 12))] := hl
      have hi : i ≤ N := hi
      have hP : va_P D dd_cl [((h 12), .inr (4, [.long ((dd_itM mf mb tk op mv i).1), .ref (h 13), .int (nI (dd_itM mf mb tk op mv i).2.2.1), .ref (h 14), .ref (h 15), .int wr, .ref (h 16)])), ((h 13), .inl (k 0, 200, .inr (.inl ((dd_itM mf mb tk op mv i).2.1)))), ((h 14), .inl (k 1, 520, .inl mf)), ((h 15), .inl (k 0, 520, .inr (.inl mb))), ((h 16), .inl (k 1, 120, .inl tx))] H := hP
      have hD : va_D A [((h 12), .inr (4, [.long ((dd_itM mf mb tk op mv i).1), .ref (h 13), .int (nI (dd_itM mf mb tk op mv i).2.2.1), .ref (h 14), .ref (h 15), .int wr, .ref (h 16)])), ((h 13), .inl (k 0, 200, .inr (.inl ((dd_itM mf mb tk op mv i).2.1)))), ((h 14), .inl (k 1, 520, .inl mf)), ((h 15), .inl (k 0, 520, .inr (.inl mb))), ((h 16), .inl (k 1, 120, .inl tx))] := hD
      have hS : va_S A s.heap H locs := hS
      refine W.eq (g2 := F0 m 17 ls []) rfl ?_
      refine lv_iload_n hx hb d_M_skip_17 rfl (lv_at hl 0 rfl) ?_
      refine lv_iload_n hx hb d_M_skip_18 rfl (lv_at hl 2 rfl) ?_
      refine lv_icmp_ge (tgt := 37) hx hb d_M_skip_19 (by decide) (fun c_3 => ?_) (fun c_3 => ?_)
      · have ei : i = N := Nat.le_antisymm hi (dd_le_nI (by omega) (by omega) c_3)
        rw [ei] at hP hD hl
        have hP : va_P D dd_cl [((h 12), .inr (4, [.long ((dd_itM mf mb tk op mv N).1), .ref (h 13), .int (nI (dd_itM mf mb tk op mv N).2.2.1), .ref (h 14), .ref (h 15), .int wr, .ref (h 16)])), ((h 13), .inl (k 0, 200, .inr (.inl ((dd_itM mf mb tk op mv N).2.1)))), ((h 14), .inl (k 1, 520, .inl mf)), ((h 15), .inl (k 0, 520, .inr (.inl mb))), ((h 16), .inl (k 1, 120, .inl tx))] H := hP
        have hD : va_D A [((h 12), .inr (4, [.long ((dd_itM mf mb tk op mv N).1), .ref (h 13), .int (nI (dd_itM mf mb tk op mv N).2.2.1), .ref (h 14), .ref (h 15), .int wr, .ref (h 16)])), ((h 13), .inl (k 0, 200, .inr (.inl ((dd_itM mf mb tk op mv N).2.1)))), ((h 14), .inl (k 1, 520, .inl mf)), ((h 15), .inl (k 0, 520, .inr (.inl mb))), ((h 16), .inl (k 1, 120, .inl tx))] := hD
        refine lv_iload_n hx hb d_M_skip_37 rfl (lv_at hl 1 rfl) ?_
        exact W.iret (v := (dd_itM mf mb tk op mv N).2.2.2) hx hb hr (fun t ht hW => ⟨⟨(dd_itM mf mb tk op mv N).2.2.2, ((dd_itM mf mb tk op mv N).1, (dd_itM mf mb tk op mv N).2.1, (nI (dd_itM mf mb tk op mv N).2.2.1), mf, mb, wr, tx), rfl, ⟨rfl, rfl⟩, by rw [ht]; exact hP, hD⟩, hS.F ht⟩) hS.2.2 d_M_skip_38
      · have hlt : i < N := dd_nle_nI (by omega) c_3
        refine lv_iload_n hx hb d_M_skip_22 rfl (lv_at hl 1 rfl) ?_
        refine lv_aload_n hx hb d_M_skip_23 rfl (lv_at hl 3 rfl) ?_
        have hPc := hP.sub (ws' := [((h 12), .inr (4, [.long ((dd_itM mf mb tk op mv i).1), .ref (h 13), .int (nI (dd_itM mf mb tk op mv i).2.2.1), .ref (h 14), .ref (h 15), .int wr, .ref (h 16)])), ((h 13), .inl (k 0, 200, .inr (.inl ((dd_itM mf mb tk op mv i).2.1)))), ((h 14), .inl (k 1, 520, .inl mf)), ((h 15), .inl (k 0, 520, .inr (.inl mb))), ((h 16), .inl (k 1, 120, .inl tx))]) [0, 1, 2, 3, 4] rfl
        have hDc := hD.sub (ws' := [((h 12), .inr (4, [.long ((dd_itM mf mb tk op mv i).1), .ref (h 13), .int (nI (dd_itM mf mb tk op mv i).2.2.1), .ref (h 14), .ref (h 15), .int wr, .ref (h 16)])), ((h 13), .inl (k 0, 200, .inr (.inl ((dd_itM mf mb tk op mv i).2.1)))), ((h 14), .inl (k 1, 520, .inl mf)), ((h 15), .inl (k 0, 520, .inr (.inl mb))), ((h 16), .inl (k 1, 120, .inl tx))]) [0, 1, 2, 3, 4] (by decide) rfl
        refine dd_mi (wc := [((h 12), .inr (4, [.long ((dd_itM mf mb tk op mv i).1), .ref (h 13), .int (nI (dd_itM mf mb tk op mv i).2.2.1), .ref (h 14), .ref (h 15), .int wr, .ref (h 16)])), ((h 13), .inl (k 0, 200, .inr (.inl ((dd_itM mf mb tk op mv i).2.1)))), ((h 14), .inl (k 1, 520, .inl mf)), ((h 15), .inl (k 0, 520, .inr (.inl mb))), ((h 16), .inl (k 1, 120, .inl tx))]) (wr := []) (va_runV (As := []) (rest := [.int ((dd_itM mf mb tk op mv i).2.2.2)]) ⟨hx, hb, hml, hown, htb⟩ (c_M_pass l D k h H.size ((dd_itM mf mb tk op mv i).1) ((dd_itM mf mb tk op mv i).2.1) ((dd_itM mf mb tk op mv i).2.2.1) mf mb wr tx (Nat.le_trans (dd_itM_le mf mb tk op mv i) hmv)) (cwV 0 htb (dd_gV tb_264 tb_237 tb_238 tb_7 tb_239) rfl rfl rfl hd_M_pass ⟨Nat.le_of_ble_eq_true rfl, Nat.le_of_ble_eq_true rfl⟩) ⟨dd_PM.bl, va_recv hK hPc (ci := 4) (q0 := 0) rfl rfl, dd_PM.of hPc hDc hK hN⟩ rfl rfl hl.1 rfl (lv_room (Nat.le_of_ble_eq_true rfl)) d_M_skip_24 ⟨Nat.le_of_ble_eq_true rfl, Nat.le_of_ble_eq_true rfl⟩) hP hD hS hA [0, 1, 2, 3, 4] [] rfl rfl (by decide) (by decide) (fun r_4 u H locs hw hP hD hS => ?_)
        obtain ⟨rfl, rfl⟩ := hw
        have hP : va_P D dd_cl [((h 12), .inr (4, [.long (((dd_itM mf mb tk op mv i).1) + 1), .ref (h 13), .int (nI (dd_psMv ((dd_itM mf mb tk op mv i).1) ((dd_itM mf mb tk op mv i).2.2.1))), .ref (h 14), .ref (h 15), .int wr, .ref (h 16)])), ((h 13), .inl (k 0, 200, .inr (.inl (dd_psOp ((dd_itM mf mb tk op mv i).1) ((dd_itM mf mb tk op mv i).2.1) mf mb ((dd_itM mf mb tk op mv i).2.2.1))))), ((h 14), .inl (k 1, 520, .inl mf)), ((h 15), .inl (k 0, 520, .inr (.inl mb))), ((h 16), .inl (k 1, 120, .inl tx))] H := hP.sub [0, 1, 2, 3, 4] rfl
        have hD : va_D A [((h 12), .inr (4, [.long (((dd_itM mf mb tk op mv i).1) + 1), .ref (h 13), .int (nI (dd_psMv ((dd_itM mf mb tk op mv i).1) ((dd_itM mf mb tk op mv i).2.2.1))), .ref (h 14), .ref (h 15), .int wr, .ref (h 16)])), ((h 13), .inl (k 0, 200, .inr (.inl (dd_psOp ((dd_itM mf mb tk op mv i).1) ((dd_itM mf mb tk op mv i).2.1) mf mb ((dd_itM mf mb tk op mv i).2.2.1))))), ((h 14), .inl (k 1, 520, .inl mf)), ((h 15), .inl (k 0, 520, .inr (.inl mb))), ((h 16), .inl (k 1, 120, .inl tx))] := hD.sub [0, 1, 2, 3, 4] (by decide) rfl
        refine lv_iconst (v := 1) hx hb d_M_skip_27 (by decide) ?_
        refine lv_iand hx hb d_M_skip_28 ?_
        refine lv_iadd hx hb d_M_skip_29 ?_
        refine lv_istore_n (lv' := [(2, .int ((dd_itM mf mb tk op mv i).2.2.2 + ((dd_pv (dd_tkM (((dd_itM mf mb tk op mv i).1) + 1))) &&& 1))), (3, .int (nI i)), (1, .int (nI N)), (0, .ref (h 12))]) hx hb d_M_skip_30 rfl hl (by decide) rfl (fun ls hl => ?_)
        refine lv_iinc (v := (nI (i + 1))) (lv' := [(3, .int (nI (i + 1))), (2, .int ((dd_itM mf mb tk op mv i).2.2.2 + ((dd_pv (dd_tkM (((dd_itM mf mb tk op mv i).1) + 1))) &&& 1))), (1, .int (nI N)), (0, .ref (h 12))]) hx hb d_M_skip_31 hl (k := 1) rfl (dd_inc i) (by decide) rfl (fun ls hl => ?_)
        refine lv_goto (tgt := 17) hx hb d_M_skip_34 (by decide) ?_
        exact ih17 (ls, (i + 1)) _ _ ⟨lv_sub hl [0, 1, 2, 3] rfl, hlt, hP, hD, hS⟩ (by dsimp only; omega)
    · exact absurd (nI_le (a := N) (b := 100000) hN2 (by decide)) c_2
set_option maxHeartbeats 4000000 in
set_option maxRecDepth 100000 in
theorem c_M_move (l : Launch) (D : va_G) (k : Nat → ClassId) (h : Nat → Nat) (sz : Nat) (tk : Int64) (op : Nat → Int64) (mv : Nat) (mf : Nat → Int32) (mb : Nat → Int64) (wr : Int32) (tx : Nat → Int32) (hmv : mv < 520) (q : Int32) (v : Int64) : Met l y_M_move w_M_move ({ frames := 2, cells := 0, slots := 0, locals := 49 }) (dd_PM D k sz (dd_wM k h (tk, op, nI mv, mf, mb, wr, tx)) [.ref (h 12), .int q, .long v]) (dd_Qi D (fun r (u : dd_MS) => (r = -1 ∧ dd_okM op mf mb mv q v = 0 ∧ u = (tk, op, nI mv, mf, mb, wr, tx)) ∨ (¬ dd_okM op mf mb mv q v = 0 ∧ v = 0 ∧ r = 0 ∧ u = (tk, op, nI mv, mf, mb, wr, tx)) ∨ (¬ dd_okM op mf mb mv q v = 0 ∧ ¬ v = 0 ∧ r = 1 ∧ u = (tk, op, nI (mv + 1), upd mf mv q, vp_updL mb mv v, wr, tx))) (fun u => dd_wM k h u) (va_A (dd_wM k h (tk, op, nI mv, mf, mb, wr, tx)) sz)) 0 0 (va_A (dd_wM k h (tk, op, nI mv, mf, mb, wr, tx)) sz) := by
  refine Met.ofW (cc := b_M_move) (maxL := 4) (ret := (some FieldType.int)) (by decide) rfl ?_
  intro p e s m args below meth c s₁ B hml hv
  obtain ⟨rfl, hsz, hP, hD0, hK, hN⟩ := hv
  have hx := B.exec
  have hb := B.bytes
  have hr := B.returns
  have htb := dd_tb (atoms_spec (ws := w_M_move) B.pre)
  have hown : s.vm.findClass "DayDeskModel" = some m.cls := findClass_of_methodNamed B.named
  have hlocks := B.notSynchronized
  subst hsz
  have hD := hD0.self (sz := s.heap.size)
  generalize hAe : va_A (dd_wM k h (tk, op, nI mv, mf, mb, wr, tx)) s.heap.size = A at hD ⊢
  have hA : ∀ q : Nat, s.heap.size ≤ q → A q := fun q h => by rw [← hAe]; exact Or.inr h
  have hS : va_S A s.heap s.heap [] := va_S.rf
  have hP : va_P D dd_cl [((h 12), .inr (4, [.long tk, .ref (h 13), .int (nI mv), .ref (h 14), .ref (h 15), .int wr, .ref (h 16)])), ((h 13), .inl (k 0, 200, .inr (.inl op))), ((h 14), .inl (k 1, 520, .inl mf)), ((h 15), .inl (k 0, 520, .inr (.inl mb))), ((h 16), .inl (k 1, 120, .inl tx))] s.heap := hP
  have hD : va_D A [((h 12), .inr (4, [.long tk, .ref (h 13), .int (nI mv), .ref (h 14), .ref (h 15), .int wr, .ref (h 16)])), ((h 13), .inl (k 0, 200, .inr (.inl op))), ((h 14), .inl (k 1, 520, .inl mf)), ((h 15), .inl (k 0, 520, .inr (.inl mb))), ((h 16), .inl (k 1, 120, .inl tx))] := hD
  have hl := lv_entry ([.ref (h 12), .int q, .long v]) (n := 4) (Nat.le_of_ble_eq_true rfl)
  rw [lg_entry_eq]
  generalize (lg_sl ([.ref (h 12), .int q, .long v]) ++ List.replicate (4 - (lg_sl ([.ref (h 12), .int q, .long v])).length) Slot.unset).toArray = ls at hl ⊢
  have hl : lv_has ls 4 [(0, .ref (h 12)), (1, .int q), (2, .long v)] := hl
  refine lv_iload_n hx hb d_M_move_0 rfl (lv_at hl 1 rfl) ?_
  refine vp_callSi (va_Run.run (va_runS (As := [.int q]) (rest := []) ⟨hx, hb, hml, hown, htb⟩ (c_M_isPosition l q) (va_cwS 1 htb (dd_gS tb_253 tb_254 tb_7 tb_255) rfl rfl rfl hd_M_isPosition.2 ⟨Nat.le_of_ble_eq_true rfl, Nat.le_of_ble_eq_true rfl⟩) ⟨dd_PS.bl, dd_PS.of⟩ rfl rfl hl.1 rfl (lv_room (Nat.le_of_ble_eq_true rfl)) d_M_move_1 ⟨Nat.le_of_ble_eq_true rfl, Nat.le_of_ble_eq_true rfl⟩)) (fun r_1 er_1 => ?_)
  subst er_1
  refine lv_if_eq (tgt := 68) hx hb d_M_move_4 (by decide) (fun c_2 => ?_) (fun c_2 => ?_)
  · refine lv_iconst (v := (-1)) hx hb d_M_move_68 (by decide) ?_
    exact W.iret (v := (-1)) hx hb hr (fun t ht hW => ⟨⟨(-1), (tk, op, (nI mv), mf, mb, wr, tx), rfl, Or.inl ⟨rfl, by unfold dd_okM; rw [if_pos c_2], rfl⟩, by rw [ht]; exact hP, hD⟩, hS.F ht⟩) hS.2.2 d_M_move_69
  · refine lv_lload_n hx hb d_M_move_7 rfl (lv_at hl 2 rfl) ?_
    refine lv_ldc2 (v := (-10000000000000000)) hx hb hown (htb _ tb_280) d_M_move_8 ?_
    refine dd_lc_lt (tgt := 68) hx hb d_M_move_11 d_M_move_12 (by decide) (fun c_3 => ?_) (fun c_3 => ?_)
    · refine lv_iconst (v := (-1)) hx hb d_M_move_68 (by decide) ?_
      exact W.iret (v := (-1)) hx hb hr (fun t ht hW => ⟨⟨(-1), (tk, op, (nI mv), mf, mb, wr, tx), rfl, Or.inl ⟨rfl, by unfold dd_okM; rw [if_neg c_2, if_pos c_3], rfl⟩, by rw [ht]; exact hP, hD⟩, hS.F ht⟩) hS.2.2 d_M_move_69
    · refine lv_lload_n hx hb d_M_move_15 rfl (lv_at hl 2 rfl) ?_
      refine lv_ldc2 (v := 10000000000000000) hx hb hown (htb _ tb_281) d_M_move_16 ?_
      refine dd_lc_gt (tgt := 68) hx hb d_M_move_19 d_M_move_20 (by decide) (fun c_4 => ?_) (fun c_4 => ?_)
      · refine lv_iconst (v := (-1)) hx hb d_M_move_68 (by decide) ?_
        exact W.iret (v := (-1)) hx hb hr (fun t ht hW => ⟨⟨(-1), (tk, op, (nI mv), mf, mb, wr, tx), rfl, Or.inl ⟨rfl, by unfold dd_okM; rw [if_neg c_2, if_neg c_3, if_pos c_4], rfl⟩, by rw [ht]; exact hP, hD⟩, hS.F ht⟩) hS.2.2 d_M_move_69
      · refine lv_aload_n hx hb d_M_move_23 rfl (lv_at hl 0 rfl) ?_
        refine lv_iload_n hx hb d_M_move_24 rfl (lv_at hl 1 rfl) ?_
        refine lv_iconst (v := 3) hx hb d_M_move_25 (by decide) ?_
        have hPc := hP.sub (ws' := [((h 12), .inr (4, [.long tk, .ref (h 13), .int (nI mv), .ref (h 14), .ref (h 15), .int wr, .ref (h 16)])), ((h 13), .inl (k 0, 200, .inr (.inl op))), ((h 14), .inl (k 1, 520, .inl mf)), ((h 15), .inl (k 0, 520, .inr (.inl mb))), ((h 16), .inl (k 1, 120, .inl tx))]) [0, 1, 2, 3, 4] rfl
        refine vp_callSl (va_Run.run (va_runV (As := [.int q, .int 3]) (rest := []) ⟨hx, hb, hml, hown, htb⟩ (c_M_row l D k h tk op mv mf mb wr tx (Nat.le_of_lt hmv) q 3) (cwV 2 htb (dd_gV tb_249 tb_250 tb_251 tb_7 tb_252) rfl rfl rfl hd_M_row ⟨Nat.le_of_ble_eq_true rfl, Nat.le_of_ble_eq_true rfl⟩) ⟨dd_PR.bl, va_recv hK hPc (ci := 4) (q0 := 0) rfl rfl, dd_PR.of hPc hK hN⟩ rfl rfl hl.1 rfl (lv_room (Nat.le_of_ble_eq_true rfl)) d_M_move_26 ⟨Nat.le_of_ble_eq_true rfl, Nat.le_of_ble_eq_true rfl⟩)) (fun r_5 er_5 => ?_)
        subst er_5
        refine lv_lload_n hx hb d_M_move_29 rfl (lv_at hl 2 rfl) ?_
        refine lv_ladd hx hb d_M_move_30 ?_
        refine vp_callSi (va_Run.run (va_runS (As := [.long ((dd_rowM op mf mb mv q 3) + v)]) (rest := []) ⟨hx, hb, hml, hown, htb⟩ (c_M_isWithin l ((dd_rowM op mf mb mv q 3) + v)) (va_cwS 1 htb (dd_gS tb_282 tb_283 tb_7 tb_284) rfl rfl rfl hd_M_isWithin.2 ⟨Nat.le_of_ble_eq_true rfl, Nat.le_of_ble_eq_true rfl⟩) ⟨dd_PS.bl, dd_PS.of⟩ rfl rfl hl.1 rfl (lv_room (Nat.le_of_ble_eq_true rfl)) d_M_move_31 ⟨Nat.le_of_ble_eq_true rfl, Nat.le_of_ble_eq_true rfl⟩)) (fun r_6 er_6 => ?_)
        subst er_6
        refine lv_if_eq (tgt := 68) hx hb d_M_move_34 (by decide) (fun c_7 => ?_) (fun c_7 => ?_)
        · refine lv_iconst (v := (-1)) hx hb d_M_move_68 (by decide) ?_
          exact W.iret (v := (-1)) hx hb hr (fun t ht hW => ⟨⟨(-1), (tk, op, (nI mv), mf, mb, wr, tx), rfl, Or.inl ⟨rfl, by unfold dd_okM; rw [if_neg c_2, if_neg c_3, if_neg c_4, if_pos c_7], rfl⟩, by rw [ht]; exact hP, hD⟩, hS.F ht⟩) hS.2.2 d_M_move_69
        · refine dd_jn (α := Int64) (P := fun z => z = (if 0 ≤ v then (dd_rowM op mf mb mv q 2 + v) else (dd_rowM op mf mb mv q 1 - v))) (g := fun z => F0 m 62 ls [.long z]) (fun z (ez : z = (if 0 ≤ v then (dd_rowM op mf mb mv q 2 + v) else (dd_rowM op mf mb mv q 1 - v))) => ?_) (fun jn62 => ?_)
          · subst ez
            refine W.eq (g2 := F0 m 62 ls [.long (if 0 ≤ v then (dd_rowM op mf mb mv q 2 + v) else (dd_rowM op mf mb mv q 1 - v))]) rfl ?_
            refine vp_callSi (va_Run.run (va_runS (As := [.long (if 0 ≤ v then (dd_rowM op mf mb mv q 2 + v) else (dd_rowM op mf mb mv q 1 - v))]) (rest := []) ⟨hx, hb, hml, hown, htb⟩ (c_M_isWithin l (if 0 ≤ v then (dd_rowM op mf mb mv q 2 + v) else (dd_rowM op mf mb mv q 1 - v))) (va_cwS 1 htb (dd_gS tb_282 tb_283 tb_7 tb_284) rfl rfl rfl hd_M_isWithin.2 ⟨Nat.le_of_ble_eq_true rfl, Nat.le_of_ble_eq_true rfl⟩) ⟨dd_PS.bl, dd_PS.of⟩ rfl rfl hl.1 rfl (lv_room (Nat.le_of_ble_eq_true rfl)) d_M_move_62 ⟨Nat.le_of_ble_eq_true rfl, Nat.le_of_ble_eq_true rfl⟩)) (fun r_8 er_8 => ?_)
            subst er_8
            refine lv_if_ne (tgt := 70) hx hb d_M_move_65 (by decide) (fun c_9 => ?_) (fun c_9 => ?_)
            · refine lv_lload_n hx hb d_M_move_70 rfl (lv_at hl 2 rfl) ?_
              refine lv_lconst (v := 0) hx hb d_M_move_71 (by decide) ?_
              refine dd_lc_ne (tgt := 78) hx hb d_M_move_72 d_M_move_73 (by decide) (fun c_10 => ?_) (fun c_10 => ?_)
              · refine lv_aload_n hx hb d_M_move_78 rfl (lv_at hl 0 rfl) ?_
                refine va_get (D := D) (ci := 4) (v := .ref (h 14)) (C := R_M) (T := F_M) (N := 7) hx hb htb i_M hown hK hP 0 rfl rfl 3 (by decide) (htb _ tb_217) (fun _ h9 => h9) rfl d_M_move_79 ?_
                refine lv_aload_n hx hb d_M_move_82 rfl (lv_at hl 0 rfl) ?_
                refine va_get (D := D) (ci := 4) (v := .int (nI mv)) (C := R_M) (T := F_M) (N := 7) hx hb htb i_M hown hK hP 0 rfl rfl 2 (by decide) (htb _ tb_216) (fun _ h9 => h9) rfl d_M_move_83 ?_
                refine lv_iload_n hx hb d_M_move_86 rfl (lv_at hl 1 rfl) ?_
                refine dd_iast (j := mv) hx hb hK hP hD hS 2 1 rfl rfl rfl hmv (by decide) d_M_move_87 (fun H locs hP hD hS => ?_)
                have hP : va_P D dd_cl [((h 12), .inr (4, [.long tk, .ref (h 13), .int (nI mv), .ref (h 14), .ref (h 15), .int wr, .ref (h 16)])), ((h 13), .inl (k 0, 200, .inr (.inl op))), ((h 14), .inl (k 1, 520, .inl (upd mf mv q))), ((h 15), .inl (k 0, 520, .inr (.inl mb))), ((h 16), .inl (k 1, 120, .inl tx))] H := hP
                have hD : va_D A [((h 12), .inr (4, [.long tk, .ref (h 13), .int (nI mv), .ref (h 14), .ref (h 15), .int wr, .ref (h 16)])), ((h 13), .inl (k 0, 200, .inr (.inl op))), ((h 14), .inl (k 1, 520, .inl (upd mf mv q))), ((h 15), .inl (k 0, 520, .inr (.inl mb))), ((h 16), .inl (k 1, 120, .inl tx))] := hD
                refine lv_aload_n hx hb d_M_move_88 rfl (lv_at hl 0 rfl) ?_
                refine va_get (D := D) (ci := 4) (v := .ref (h 15)) (C := R_M) (T := F_M) (N := 7) hx hb htb i_M hown hK hP 0 rfl rfl 4 (by decide) (htb _ tb_218) (fun _ h9 => h9) rfl d_M_move_89 ?_
                refine lv_aload_n hx hb d_M_move_92 rfl (lv_at hl 0 rfl) ?_
                refine va_get (D := D) (ci := 4) (v := .int (nI mv)) (C := R_M) (T := F_M) (N := 7) hx hb htb i_M hown hK hP 0 rfl rfl 2 (by decide) (htb _ tb_216) (fun _ h9 => h9) rfl d_M_move_93 ?_
                refine lv_lload_n hx hb d_M_move_96 rfl (lv_at hl 2 rfl) ?_
                refine dd_last (j := mv) hx hb hK hP hD hS 3 0 rfl rfl rfl hmv (by decide) d_M_move_97 (fun H locs hP hD hS => ?_)
                have hP : va_P D dd_cl [((h 12), .inr (4, [.long tk, .ref (h 13), .int (nI mv), .ref (h 14), .ref (h 15), .int wr, .ref (h 16)])), ((h 13), .inl (k 0, 200, .inr (.inl op))), ((h 14), .inl (k 1, 520, .inl (upd mf mv q))), ((h 15), .inl (k 0, 520, .inr (.inl (vp_updL mb mv v)))), ((h 16), .inl (k 1, 120, .inl tx))] H := hP
                have hD : va_D A [((h 12), .inr (4, [.long tk, .ref (h 13), .int (nI mv), .ref (h 14), .ref (h 15), .int wr, .ref (h 16)])), ((h 13), .inl (k 0, 200, .inr (.inl op))), ((h 14), .inl (k 1, 520, .inl (upd mf mv q))), ((h 15), .inl (k 0, 520, .inr (.inl (vp_updL mb mv v)))), ((h 16), .inl (k 1, 120, .inl tx))] := hD
                refine lv_aload_n hx hb d_M_move_98 rfl (lv_at hl 0 rfl) ?_
                refine lv_dup hx hb d_M_move_99 rfl ?_
                refine va_get (D := D) (ci := 4) (v := .int (nI mv)) (C := R_M) (T := F_M) (N := 7) hx hb htb i_M hown hK hP 0 rfl rfl 2 (by decide) (htb _ tb_216) (fun _ h9 => h9) rfl d_M_move_100 ?_
                refine lv_iconst (v := 1) hx hb d_M_move_103 (by decide) ?_
                refine lv_iadd hx hb d_M_move_104 ?_
                refine lv_topi (fun y_11 ey_11 => ?_)
                obtain rfl : y_11 = (nI (mv + 1)) := ey_11.trans (nI_1 mv)
                refine va_put (D := D) (ci := 4) (v := .int (nI (mv + 1))) (ty := .int) (C := R_M) (T := F_M) (N := 7) hx hb htb i_M t_M t_M_ok n_M hown hK hP hD hS 0 rfl rfl 2 (by decide) (htb _ tb_216) (fun _ h9 => h9) rfl (by decide +kernel) rfl rfl (Nat.le_of_ble_eq_true rfl) d_M_move_105 (fun H locs hP hD hS => ?_)
                have hP : va_P D dd_cl [((h 12), .inr (4, [.long tk, .ref (h 13), .int (nI (mv + 1)), .ref (h 14), .ref (h 15), .int wr, .ref (h 16)])), ((h 13), .inl (k 0, 200, .inr (.inl op))), ((h 14), .inl (k 1, 520, .inl (upd mf mv q))), ((h 15), .inl (k 0, 520, .inr (.inl (vp_updL mb mv v)))), ((h 16), .inl (k 1, 120, .inl tx))] H := hP
                have hD : va_D A [((h 12), .inr (4, [.long tk, .ref (h 13), .int (nI (mv + 1)), .ref (h 14), .ref (h 15), .int wr, .ref (h 16)])), ((h 13), .inl (k 0, 200, .inr (.inl op))), ((h 14), .inl (k 1, 520, .inl (upd mf mv q))), ((h 15), .inl (k 0, 520, .inr (.inl (vp_updL mb mv v)))), ((h 16), .inl (k 1, 120, .inl tx))] := hD
                refine lv_iconst (v := 1) hx hb d_M_move_108 (by decide) ?_
                exact W.iret (v := 1) hx hb hr (fun t ht hW => ⟨⟨1, (tk, op, (nI (mv + 1)), (upd mf mv q), (vp_updL mb mv v), wr, tx), rfl, Or.inr (Or.inr ⟨by unfold dd_okM; rw [if_neg c_2, if_neg c_3, if_neg c_4, if_neg c_7, if_pos c_9]; decide, c_10, rfl, rfl⟩), by rw [ht]; exact hP, hD⟩, hS.F ht⟩) hS.2.2 d_M_move_109
              · refine lv_iconst (v := 0) hx hb d_M_move_76 (by decide) ?_
                exact W.iret (v := 0) hx hb hr (fun t ht hW => ⟨⟨0, (tk, op, (nI mv), mf, mb, wr, tx), rfl, Or.inr (Or.inl ⟨by unfold dd_okM; rw [if_neg c_2, if_neg c_3, if_neg c_4, if_neg c_7, if_pos c_9]; decide, c_10, rfl, rfl⟩), by rw [ht]; exact hP, hD⟩, hS.F ht⟩) hS.2.2 d_M_move_77
            · refine lv_iconst (v := (-1)) hx hb d_M_move_68 (by decide) ?_
              exact W.iret (v := (-1)) hx hb hr (fun t ht hW => ⟨⟨(-1), (tk, op, (nI mv), mf, mb, wr, tx), rfl, Or.inl ⟨rfl, by unfold dd_okM; rw [if_neg c_2, if_neg c_3, if_neg c_4, if_neg c_7, if_neg (not_not_intro c_9)], rfl⟩, by rw [ht]; exact hP, hD⟩, hS.F ht⟩) hS.2.2 d_M_move_69
          refine lv_lload_n hx hb d_M_move_37 rfl (lv_at hl 2 rfl) ?_
          refine lv_lconst (v := 0) hx hb d_M_move_38 (by decide) ?_
          refine dd_lc_ge (tgt := 54) hx hb d_M_move_39 d_M_move_40 (by decide) (fun c_12 => ?_) (fun c_12 => ?_)
          · refine lv_aload_n hx hb d_M_move_54 rfl (lv_at hl 0 rfl) ?_
            refine lv_iload_n hx hb d_M_move_55 rfl (lv_at hl 1 rfl) ?_
            refine lv_iconst (v := 2) hx hb d_M_move_56 (by decide) ?_
            have hPc := hP.sub (ws' := [((h 12), .inr (4, [.long tk, .ref (h 13), .int (nI mv), .ref (h 14), .ref (h 15), .int wr, .ref (h 16)])), ((h 13), .inl (k 0, 200, .inr (.inl op))), ((h 14), .inl (k 1, 520, .inl mf)), ((h 15), .inl (k 0, 520, .inr (.inl mb))), ((h 16), .inl (k 1, 120, .inl tx))]) [0, 1, 2, 3, 4] rfl
            refine vp_callSl (va_Run.run (va_runV (As := [.int q, .int 2]) (rest := []) ⟨hx, hb, hml, hown, htb⟩ (c_M_row l D k h tk op mv mf mb wr tx (Nat.le_of_lt hmv) q 2) (cwV 2 htb (dd_gV tb_249 tb_250 tb_251 tb_7 tb_252) rfl rfl rfl hd_M_row ⟨Nat.le_of_ble_eq_true rfl, Nat.le_of_ble_eq_true rfl⟩) ⟨dd_PR.bl, va_recv hK hPc (ci := 4) (q0 := 0) rfl rfl, dd_PR.of hPc hK hN⟩ rfl rfl hl.1 rfl (lv_room (Nat.le_of_ble_eq_true rfl)) d_M_move_57 ⟨Nat.le_of_ble_eq_true rfl, Nat.le_of_ble_eq_true rfl⟩)) (fun r_13 er_13 => ?_)
            subst er_13
            refine lv_lload_n hx hb d_M_move_60 rfl (lv_at hl 2 rfl) ?_
            refine lv_ladd hx hb d_M_move_61 ?_
            exact jn62 _ ((if_pos c_12).symm)
          · refine lv_aload_n hx hb d_M_move_43 rfl (lv_at hl 0 rfl) ?_
            refine lv_iload_n hx hb d_M_move_44 rfl (lv_at hl 1 rfl) ?_
            refine lv_iconst (v := 1) hx hb d_M_move_45 (by decide) ?_
            have hPc := hP.sub (ws' := [((h 12), .inr (4, [.long tk, .ref (h 13), .int (nI mv), .ref (h 14), .ref (h 15), .int wr, .ref (h 16)])), ((h 13), .inl (k 0, 200, .inr (.inl op))), ((h 14), .inl (k 1, 520, .inl mf)), ((h 15), .inl (k 0, 520, .inr (.inl mb))), ((h 16), .inl (k 1, 120, .inl tx))]) [0, 1, 2, 3, 4] rfl
            refine vp_callSl (va_Run.run (va_runV (As := [.int q, .int 1]) (rest := []) ⟨hx, hb, hml, hown, htb⟩ (c_M_row l D k h tk op mv mf mb wr tx (Nat.le_of_lt hmv) q 1) (cwV 2 htb (dd_gV tb_249 tb_250 tb_251 tb_7 tb_252) rfl rfl rfl hd_M_row ⟨Nat.le_of_ble_eq_true rfl, Nat.le_of_ble_eq_true rfl⟩) ⟨dd_PR.bl, va_recv hK hPc (ci := 4) (q0 := 0) rfl rfl, dd_PR.of hPc hK hN⟩ rfl rfl hl.1 rfl (lv_room (Nat.le_of_ble_eq_true rfl)) d_M_move_46 ⟨Nat.le_of_ble_eq_true rfl, Nat.le_of_ble_eq_true rfl⟩)) (fun r_14 er_14 => ?_)
            subst er_14
            refine lv_lload_n hx hb d_M_move_49 rfl (lv_at hl 2 rfl) ?_
            refine lv_lsub hx hb d_M_move_50 ?_
            refine lv_goto (tgt := 62) hx hb d_M_move_51 (by decide) ?_
            exact jn62 _ ((if_neg c_12).symm)
set_option maxHeartbeats 4000000 in
set_option maxRecDepth 100000 in
theorem c_M_number (l : Launch) (D : va_G) (k : Nat → ClassId) (h : Nat → Nat) (sz : Nat) (tk : Int64) (op : Nat → Int64) (mv : Nat) (mf : Nat → Int32) (mb : Nat → Int64) (z : Nat) (tx : Nat → Int32) (v : Int64) (n : Nat) (hn : dd_isN v n) (hz : z + 20 ≤ 120) : Met l y_M_number w_M_number ({ frames := 1, cells := 0, slots := 0, locals := 21 }) (dd_PM D k sz (dd_wM k h (tk, op, nI mv, mf, mb, nI z, tx)) [.ref (h 12), .long v]) (dd_Qv D (fun u : dd_MS => u = (tk, op, nI mv, mf, mb, nI (z + (dd_txt v n).length), dd_app tx z (dd_txt v n))) (fun u => dd_wM k h u) (va_A (dd_wM k h (tk, op, nI mv, mf, mb, nI z, tx)) sz)) 0 0 (va_A (dd_wM k h (tk, op, nI mv, mf, mb, nI z, tx)) sz) := by
  refine Met.ofW (cc := b_M_number) (maxL := 9) (ret := none) (by decide) rfl ?_
  intro p e s m args below meth c s₁ B hml hv
  obtain ⟨rfl, hsz, hP, hD0, hK, hN⟩ := hv
  have hx := B.exec
  have hb := B.bytes
  have hr := B.returns
  have htb := dd_tb (atoms_spec (ws := w_M_number) B.pre)
  have hown : s.vm.findClass "DayDeskModel" = some m.cls := findClass_of_methodNamed B.named
  have hlocks := B.notSynchronized
  subst hsz
  have hD := hD0.self (sz := s.heap.size)
  generalize hAe : va_A (dd_wM k h (tk, op, nI mv, mf, mb, nI z, tx)) s.heap.size = A at hD ⊢
  have hA : ∀ q : Nat, s.heap.size ≤ q → A q := fun q h => by rw [← hAe]; exact Or.inr h
  have hS : va_S A s.heap s.heap [] := va_S.rf
  have hP : va_P D dd_cl [((h 12), .inr (4, [.long tk, .ref (h 13), .int (nI mv), .ref (h 14), .ref (h 15), .int (nI z), .ref (h 16)])), ((h 13), .inl (k 0, 200, .inr (.inl op))), ((h 14), .inl (k 1, 520, .inl mf)), ((h 15), .inl (k 0, 520, .inr (.inl mb))), ((h 16), .inl (k 1, 120, .inl tx))] s.heap := hP
  have hD : va_D A [((h 12), .inr (4, [.long tk, .ref (h 13), .int (nI mv), .ref (h 14), .ref (h 15), .int (nI z), .ref (h 16)])), ((h 13), .inl (k 0, 200, .inr (.inl op))), ((h 14), .inl (k 1, 520, .inl mf)), ((h 15), .inl (k 0, 520, .inr (.inl mb))), ((h 16), .inl (k 1, 120, .inl tx))] := hD
  have hl := lv_entry ([.ref (h 12), .long v]) (n := 9) (Nat.le_of_ble_eq_true rfl)
  rw [lg_entry_eq]
  generalize (lg_sl ([.ref (h 12), .long v]) ++ List.replicate (9 - (lg_sl ([.ref (h 12), .long v])).length) Slot.unset).toArray = ls at hl ⊢
  have hl : lv_has ls 9 [(0, .ref (h 12)), (1, .long v)] := hl
  refine dd_jnH (α := List Int32) (P := fun sg H locs => sg = dd_sg v ∧ va_P D dd_cl [((h 12), .inr (4, [.long tk, .ref (h 13), .int (nI mv), .ref (h 14), .ref (h 15), .int (nI (z + (sg : List Int32).length)), .ref (h 16)])), ((h 13), .inl (k 0, 200, .inr (.inl op))), ((h 14), .inl (k 1, 520, .inl mf)), ((h 15), .inl (k 0, 520, .inr (.inl mb))), ((h 16), .inl (k 1, 120, .inl (dd_app tx z sg)))] H ∧ va_D A [((h 12), .inr (4, [.long tk, .ref (h 13), .int (nI mv), .ref (h 14), .ref (h 15), .int (nI (z + (sg : List Int32).length)), .ref (h 16)])), ((h 13), .inl (k 0, 200, .inr (.inl op))), ((h 14), .inl (k 1, 520, .inl mf)), ((h 15), .inl (k 0, 520, .inr (.inl mb))), ((h 16), .inl (k 1, 120, .inl (dd_app tx z sg)))] ∧ va_S A s.heap H locs) (g := fun _ => F0 m 12 ls []) (fun sg H locs hJ => ?_) (fun jn12 => ?_)
  · obtain ⟨esg, hP, hD, hS⟩ := hJ
    have hP : va_P D dd_cl [((h 12), .inr (4, [.long tk, .ref (h 13), .int (nI mv), .ref (h 14), .ref (h 15), .int (nI (z + (sg : List Int32).length)), .ref (h 16)])), ((h 13), .inl (k 0, 200, .inr (.inl op))), ((h 14), .inl (k 1, 520, .inl mf)), ((h 15), .inl (k 0, 520, .inr (.inl mb))), ((h 16), .inl (k 1, 120, .inl (dd_app tx z sg)))] H := hP
    have hD : va_D A [((h 12), .inr (4, [.long tk, .ref (h 13), .int (nI mv), .ref (h 14), .ref (h 15), .int (nI (z + (sg : List Int32).length)), .ref (h 16)])), ((h 13), .inl (k 0, 200, .inr (.inl op))), ((h 14), .inl (k 1, 520, .inl mf)), ((h 15), .inl (k 0, 520, .inr (.inl mb))), ((h 16), .inl (k 1, 120, .inl (dd_app tx z sg)))] := hD
    have hsl : sg.length ≤ 1 := by rw [esg]; exact dd_sg_len v
    have hn19 := hn.2.1
    have hn1 := hn.1
    refine lv_iconst (v := 1) hx hb d_M_number_12 (by decide) ?_
    refine lv_istore_n (lv' := [(3, .int 1), (0, .ref (h 12)), (1, .long v)]) hx hb d_M_number_13 rfl hl (by decide) rfl (fun ls hl => ?_)
    refine lv_lload_n hx hb d_M_number_14 rfl (lv_at hl 2 rfl) ?_
    refine lv_ldc2 (v := 10) hx hb hown (htb _ tb_304) d_M_number_15 ?_
    refine lv_ldiv hx hb d_M_number_18 (by decide) ?_
    refine lv_topl (fun y_1 ey_1 => ?_)
    obtain rfl : y_1 = (dd_dv 1 v) := ey_1.trans rfl
    refine lv_lstore (lv' := [(4, .long (dd_dv 1 v)), (3, .int 1), (0, .ref (h 12)), (1, .long v)]) hx hb d_M_number_19 hl (by decide) rfl (fun ls hl => ?_)
    refine dd_loop (α := Array Slot × Nat) (I := fun a H locs => (lv_has a.1 9 [(4, .long (dd_dv a.2 v)), (3, .int (nI a.2)), (1, .long v), (0, .ref (h 12))]) ∧ (1 ≤ a.2) ∧ (a.2 ≤ n) ∧ (va_P D dd_cl [((h 12), .inr (4, [.long tk, .ref (h 13), .int (nI mv), .ref (h 14), .ref (h 15), .int (nI (z + (sg : List Int32).length)), .ref (h 16)])), ((h 13), .inl (k 0, 200, .inr (.inl op))), ((h 14), .inl (k 1, 520, .inl mf)), ((h 15), .inl (k 0, 520, .inr (.inl mb))), ((h 16), .inl (k 1, 120, .inl (dd_app tx z sg)))] H) ∧ (va_D A [((h 12), .inr (4, [.long tk, .ref (h 13), .int (nI mv), .ref (h 14), .ref (h 15), .int (nI (z + (sg : List Int32).length)), .ref (h 16)])), ((h 13), .inl (k 0, 200, .inr (.inl op))), ((h 14), .inl (k 1, 520, .inl mf)), ((h 15), .inl (k 0, 520, .inr (.inl mb))), ((h 16), .inl (k 1, 120, .inl (dd_app tx z sg)))]) ∧ (va_S A s.heap H locs)) (g := fun a => F0 m 21 a.1 []) (μ := fun a => n - a.2) (fun a H locs hI ih21 => ?_) (ls, 1) ⟨lv_sub hl [0, 1, 3, 2] rfl, Nat.le_refl 1, hn1, hP, hD, hS⟩
    obtain ⟨ls, i⟩ := a
    obtain ⟨hl, hi1, hin, hP, hD, hS⟩ := hI
    have hl : lv_has ls 9 [(4, .long (dd_dv i v)), (3, .int (nI i)), (1, .long v), (0, .ref (h 12))] := hl
    have hi1 : 1 ≤ i := hi1
    have hin : i ≤ n := hin
    have hP : va_P D dd_cl [((h 12), .inr (4, [.long tk, .ref (h 13), .int (nI mv), .ref (h 14), .ref (h 15), .int (nI (z + (sg : List Int32).length)), .ref (h 16)])), ((h 13), .inl (k 0, 200, .inr (.inl op))), ((h 14), .inl (k 1, 520, .inl mf)), ((h 15), .inl (k 0, 520, .inr (.inl mb))), ((h 16), .inl (k 1, 120, .inl (dd_app tx z sg)))] H := hP
    have hD : va_D A [((h 12), .inr (4, [.long tk, .ref (h 13), .int (nI mv), .ref (h 14), .ref (h 15), .int (nI (z + (sg : List Int32).length)), .ref (h 16)])), ((h 13), .inl (k 0, 200, .inr (.inl op))), ((h 14), .inl (k 1, 520, .inl mf)), ((h 15), .inl (k 0, 520, .inr (.inl mb))), ((h 16), .inl (k 1, 120, .inl (dd_app tx z sg)))] := hD
    have hS : va_S A s.heap H locs := hS
    refine W.eq (g2 := F0 m 21 ls []) rfl ?_
    refine lv_lload hx hb d_M_number_21 (lv_at hl 0 rfl) ?_
    refine lv_lconst (v := 0) hx hb d_M_number_23 (by decide) ?_
    refine dd_lc_eq (tgt := 42) hx hb d_M_number_24 d_M_number_25 (by decide) (fun c_2 => ?_) (fun c_2 => ?_)
    · have hen : i = n := by
        rcases Nat.lt_or_ge i n with q | q
        · exact absurd c_2 (hn.2.2.2 i hi1 q)
        · omega
      rw [← List.append_nil sg] at hP hD
      have hP : va_P D dd_cl [((h 12), .inr (4, [.long tk, .ref (h 13), .int (nI mv), .ref (h 14), .ref (h 15), .int (nI (z + ((sg ++ []) : List Int32).length)), .ref (h 16)])), ((h 13), .inl (k 0, 200, .inr (.inl op))), ((h 14), .inl (k 1, 520, .inl mf)), ((h 15), .inl (k 0, 520, .inr (.inl mb))), ((h 16), .inl (k 1, 120, .inl (dd_app tx z (sg ++ []))))] H := hP
      have hD : va_D A [((h 12), .inr (4, [.long tk, .ref (h 13), .int (nI mv), .ref (h 14), .ref (h 15), .int (nI (z + ((sg ++ []) : List Int32).length)), .ref (h 16)])), ((h 13), .inl (k 0, 200, .inr (.inl op))), ((h 14), .inl (k 1, 520, .inl mf)), ((h 15), .inl (k 0, 520, .inr (.inl mb))), ((h 16), .inl (k 1, 120, .inl (dd_app tx z (sg ++ []))))] := hD
      refine lv_iload_n hx hb d_M_number_42 rfl (lv_at hl 1 rfl) ?_
      refine lv_iconst (v := 1) hx hb d_M_number_43 (by decide) ?_
      refine lv_isub hx hb d_M_number_44 ?_
      refine lv_topi (fun y_3 ey_3 => ?_)
      obtain rfl : y_3 = (nI (n - 0) - 1) := ey_3.trans (by rw [hen]; rfl)
      refine lv_istore (lv' := [(4, .int (nI (n - 0) - 1)), (3, .int (nI i)), (1, .long v), (0, .ref (h 12))]) hx hb d_M_number_45 hl (by decide) rfl (fun ls hl => ?_)
      refine dd_loop (α := Array Slot × Nat) (I := fun a H locs => (lv_has a.1 9 [(4, .int (nI (n - a.2) - 1)), (1, .long v), (0, .ref (h 12))]) ∧ (a.2 ≤ n) ∧ (va_P D dd_cl [((h 12), .inr (4, [.long tk, .ref (h 13), .int (nI mv), .ref (h 14), .ref (h 15), .int (nI (z + ((sg ++ dd_dsv v n a.2) : List Int32).length)), .ref (h 16)])), ((h 13), .inl (k 0, 200, .inr (.inl op))), ((h 14), .inl (k 1, 520, .inl mf)), ((h 15), .inl (k 0, 520, .inr (.inl mb))), ((h 16), .inl (k 1, 120, .inl (dd_app tx z (sg ++ dd_dsv v n a.2))))] H) ∧ (va_D A [((h 12), .inr (4, [.long tk, .ref (h 13), .int (nI mv), .ref (h 14), .ref (h 15), .int (nI (z + ((sg ++ dd_dsv v n a.2) : List Int32).length)), .ref (h 16)])), ((h 13), .inl (k 0, 200, .inr (.inl op))), ((h 14), .inl (k 1, 520, .inl mf)), ((h 15), .inl (k 0, 520, .inr (.inl mb))), ((h 16), .inl (k 1, 120, .inl (dd_app tx z (sg ++ dd_dsv v n a.2))))]) ∧ (va_S A s.heap H locs)) (g := fun a => F0 m 47 a.1 []) (μ := fun a => n - a.2) (fun a H locs hI ih47 => ?_) (ls, 0) ⟨lv_sub hl [0, 2, 3] rfl, Nat.zero_le n, hP, hD, hS⟩
      obtain ⟨ls, cq⟩ := a
      obtain ⟨hl, hcq, hP, hD, hS⟩ := hI
      have hl : lv_has ls 9 [(4, .int (nI (n - cq) - 1)), (1, .long v), (0, .ref (h 12))] := hl
      have hcq : cq ≤ n := hcq
      have hP : va_P D dd_cl [((h 12), .inr (4, [.long tk, .ref (h 13), .int (nI mv), .ref (h 14), .ref (h 15), .int (nI (z + ((sg ++ dd_dsv v n cq) : List Int32).length)), .ref (h 16)])), ((h 13), .inl (k 0, 200, .inr (.inl op))), ((h 14), .inl (k 1, 520, .inl mf)), ((h 15), .inl (k 0, 520, .inr (.inl mb))), ((h 16), .inl (k 1, 120, .inl (dd_app tx z (sg ++ dd_dsv v n cq))))] H := hP
      have hD : va_D A [((h 12), .inr (4, [.long tk, .ref (h 13), .int (nI mv), .ref (h 14), .ref (h 15), .int (nI (z + ((sg ++ dd_dsv v n cq) : List Int32).length)), .ref (h 16)])), ((h 13), .inl (k 0, 200, .inr (.inl op))), ((h 14), .inl (k 1, 520, .inl mf)), ((h 15), .inl (k 0, 520, .inr (.inl mb))), ((h 16), .inl (k 1, 120, .inl (dd_app tx z (sg ++ dd_dsv v n cq))))] := hD
      have hS : va_S A s.heap H locs := hS
      refine W.eq (g2 := F0 m 47 ls []) rfl ?_
      refine lv_iload hx hb d_M_number_47 (lv_at hl 0 rfl) ?_
      refine lv_if_lt (tgt := 116) hx hb d_M_number_49 (by decide) (fun c_4 => ?_) (fun c_4 => ?_)
      · have ecq : cq = n := dd_neg1 hn19 hcq c_4
        rw [ecq, esg] at hP hD
        exact W.vret hx hb hr (fun t ht hW => ⟨⟨(tk, op, nI mv, mf, mb, nI (z + (dd_txt v n).length), dd_app tx z (dd_txt v n)), rfl, rfl, by rw [ht]; exact hP, hD⟩, hS.F ht⟩) hS.2.2 d_M_number_116
      · have hlt2 : cq < n := dd_nneg1 hn19 hcq c_4
        have hln := dd_len_sd sg v n cq
        rw [dd_ix hlt2] at hl
        refine lv_lload_n hx hb d_M_number_52 rfl (lv_at hl 1 rfl) ?_
        refine lv_lstore (lv' := [(5, .long v), (4, .int (nI (n - 1 - cq))), (1, .long v), (0, .ref (h 12))]) hx hb d_M_number_53 hl (by decide) rfl (fun ls hl => ?_)
        refine lv_iconst (v := 0) hx hb d_M_number_55 (by decide) ?_
        refine lv_istore (lv' := [(7, .int 0), (5, .long v), (4, .int (nI (n - 1 - cq))), (1, .long v), (0, .ref (h 12))]) hx hb d_M_number_56 hl (by decide) rfl (fun ls hl => ?_)
        refine dd_loop (α := Array Slot × Nat) (I := fun a H locs => (lv_has a.1 9 [(7, .int (nI a.2)), (5, .long (dd_dv a.2 v)), (4, .int (nI (n - 1 - cq))), (1, .long v), (0, .ref (h 12))]) ∧ (a.2 ≤ n - 1 - cq) ∧ (va_P D dd_cl [((h 12), .inr (4, [.long tk, .ref (h 13), .int (nI mv), .ref (h 14), .ref (h 15), .int (nI (z + ((sg ++ dd_dsv v n cq) : List Int32).length)), .ref (h 16)])), ((h 13), .inl (k 0, 200, .inr (.inl op))), ((h 14), .inl (k 1, 520, .inl mf)), ((h 15), .inl (k 0, 520, .inr (.inl mb))), ((h 16), .inl (k 1, 120, .inl (dd_app tx z (sg ++ dd_dsv v n cq))))] H) ∧ (va_D A [((h 12), .inr (4, [.long tk, .ref (h 13), .int (nI mv), .ref (h 14), .ref (h 15), .int (nI (z + ((sg ++ dd_dsv v n cq) : List Int32).length)), .ref (h 16)])), ((h 13), .inl (k 0, 200, .inr (.inl op))), ((h 14), .inl (k 1, 520, .inl mf)), ((h 15), .inl (k 0, 520, .inr (.inl mb))), ((h 16), .inl (k 1, 120, .inl (dd_app tx z (sg ++ dd_dsv v n cq))))]) ∧ (va_S A s.heap H locs)) (g := fun a => F0 m 58 a.1 []) (μ := fun a => n - 1 - cq - a.2) (fun a H locs hI ih58 => ?_) (ls, 0) ⟨lv_sub hl [0, 1, 2, 3, 4] rfl, Nat.zero_le _, hP, hD, hS⟩
        obtain ⟨ls, x⟩ := a
        obtain ⟨hl, hx1, hP, hD, hS⟩ := hI
        have hl : lv_has ls 9 [(7, .int (nI x)), (5, .long (dd_dv x v)), (4, .int (nI (n - 1 - cq))), (1, .long v), (0, .ref (h 12))] := hl
        have hx1 : x ≤ n - 1 - cq := hx1
        have hP : va_P D dd_cl [((h 12), .inr (4, [.long tk, .ref (h 13), .int (nI mv), .ref (h 14), .ref (h 15), .int (nI (z + ((sg ++ dd_dsv v n cq) : List Int32).length)), .ref (h 16)])), ((h 13), .inl (k 0, 200, .inr (.inl op))), ((h 14), .inl (k 1, 520, .inl mf)), ((h 15), .inl (k 0, 520, .inr (.inl mb))), ((h 16), .inl (k 1, 120, .inl (dd_app tx z (sg ++ dd_dsv v n cq))))] H := hP
        have hD : va_D A [((h 12), .inr (4, [.long tk, .ref (h 13), .int (nI mv), .ref (h 14), .ref (h 15), .int (nI (z + ((sg ++ dd_dsv v n cq) : List Int32).length)), .ref (h 16)])), ((h 13), .inl (k 0, 200, .inr (.inl op))), ((h 14), .inl (k 1, 520, .inl mf)), ((h 15), .inl (k 0, 520, .inr (.inl mb))), ((h 16), .inl (k 1, 120, .inl (dd_app tx z (sg ++ dd_dsv v n cq))))] := hD
        have hS : va_S A s.heap H locs := hS
        refine W.eq (g2 := F0 m 58 ls []) rfl ?_
        refine lv_iload hx hb d_M_number_58 (lv_at hl 0 rfl) ?_
        refine lv_iload hx hb d_M_number_60 (lv_at hl 2 rfl) ?_
        refine lv_icmp_ge (tgt := 79) hx hb d_M_number_62 (by decide) (fun c_5 => ?_) (fun c_5 => ?_)
        · have hex : x = n - 1 - cq := Nat.le_antisymm hx1 (dd_le_nI (by omega) (by omega) c_5)
          rw [hex] at hl
          refine lv_lload hx hb d_M_number_79 (lv_at hl 1 rfl) ?_
          refine lv_ldc2 (v := 10) hx hb hown (htb _ tb_304) d_M_number_81 ?_
          refine lv_lrem hx hb d_M_number_84 (by decide) ?_
          refine lv_lstore (lv' := [(7, .long ((dd_dv (n - 1 - cq) v) - (dd_dv (n - 1 - cq) v) / 10 * 10)), (5, .long (dd_dv (n - 1 - cq) v)), (4, .int (nI (n - 1 - cq))), (1, .long v), (0, .ref (h 12))]) hx hb d_M_number_85 hl (by decide) rfl (fun ls hl => ?_)
          refine lv_aload_n hx hb d_M_number_87 rfl (lv_at hl 4 rfl) ?_
          refine lv_bipush (v := 48) hx hb d_M_number_88 (by decide) ?_
          refine dd_jn (α := Int64) (P := fun z => z = (if 0 ≤ ((dd_dv (n - 1 - cq) v) - (dd_dv (n - 1 - cq) v) / 10 * 10) then ((dd_dv (n - 1 - cq) v) - (dd_dv (n - 1 - cq) v) / 10 * 10) else (-((dd_dv (n - 1 - cq) v) - (dd_dv (n - 1 - cq) v) / 10 * 10)))) (g := fun z => F0 m 105 ls [.long z, .int 48, .ref (h 12)]) (fun z (ez : z = (if 0 ≤ ((dd_dv (n - 1 - cq) v) - (dd_dv (n - 1 - cq) v) / 10 * 10) then ((dd_dv (n - 1 - cq) v) - (dd_dv (n - 1 - cq) v) / 10 * 10) else (-((dd_dv (n - 1 - cq) v) - (dd_dv (n - 1 - cq) v) / 10 * 10)))) => ?_) (fun jn105 => ?_)
          · subst ez
            refine W.eq (g2 := F0 m 105 ls [.long (if 0 ≤ ((dd_dv (n - 1 - cq) v) - (dd_dv (n - 1 - cq) v) / 10 * 10) then ((dd_dv (n - 1 - cq) v) - (dd_dv (n - 1 - cq) v) / 10 * 10) else (-((dd_dv (n - 1 - cq) v) - (dd_dv (n - 1 - cq) v) / 10 * 10))), .int 48, .ref (h 12)]) rfl ?_
            refine lv_l2i hx hb d_M_number_105 rfl ?_
            refine lv_iadd hx hb d_M_number_106 ?_
            refine lv_topi (fun y_6 ey_6 => ?_)
            obtain rfl : y_6 = (dd_dg (dd_dv (n - 1 - cq) v)) := ey_6.trans rfl
            have hPc := hP.sub (ws' := [((h 12), .inr (4, [.long tk, .ref (h 13), .int (nI mv), .ref (h 14), .ref (h 15), .int (nI (z + ((sg ++ dd_dsv v n cq) : List Int32).length)), .ref (h 16)])), ((h 13), .inl (k 0, 200, .inr (.inl op))), ((h 14), .inl (k 1, 520, .inl mf)), ((h 15), .inl (k 0, 520, .inr (.inl mb))), ((h 16), .inl (k 1, 120, .inl (dd_app tx z (sg ++ dd_dsv v n cq))))]) [0, 1, 2, 3, 4] rfl
            have hDc := hD.sub (ws' := [((h 12), .inr (4, [.long tk, .ref (h 13), .int (nI mv), .ref (h 14), .ref (h 15), .int (nI (z + ((sg ++ dd_dsv v n cq) : List Int32).length)), .ref (h 16)])), ((h 13), .inl (k 0, 200, .inr (.inl op))), ((h 14), .inl (k 1, 520, .inl mf)), ((h 15), .inl (k 0, 520, .inr (.inl mb))), ((h 16), .inl (k 1, 120, .inl (dd_app tx z (sg ++ dd_dsv v n cq))))]) [0, 1, 2, 3, 4] (by decide) rfl
            refine dd_mv (wc := [((h 12), .inr (4, [.long tk, .ref (h 13), .int (nI mv), .ref (h 14), .ref (h 15), .int (nI (z + ((sg ++ dd_dsv v n cq) : List Int32).length)), .ref (h 16)])), ((h 13), .inl (k 0, 200, .inr (.inl op))), ((h 14), .inl (k 1, 520, .inl mf)), ((h 15), .inl (k 0, 520, .inr (.inl mb))), ((h 16), .inl (k 1, 120, .inl (dd_app tx z (sg ++ dd_dsv v n cq))))]) (wr := []) (va_runV (As := [.int (dd_dg (dd_dv (n - 1 - cq) v))]) (rest := []) ⟨hx, hb, hml, hown, htb⟩ (c_M_put l D k h H.size tk op mv mf mb (z + ((sg ++ dd_dsv v n cq) : List Int32).length) (dd_app tx z (sg ++ dd_dsv v n cq)) (by omega) (dd_dg (dd_dv (n - 1 - cq) v))) (cwV 1 htb (dd_gV tb_296 tb_298 tb_p2 tb_7 tb_299) rfl rfl rfl hd_M_put ⟨Nat.le_of_ble_eq_true rfl, Nat.le_of_ble_eq_true rfl⟩) ⟨dd_PM.bl, va_recv hK hPc (ci := 4) (q0 := 0) rfl rfl, dd_PM.of hPc hDc hK hN⟩ rfl rfl hl.1 rfl (lv_room (Nat.le_of_ble_eq_true rfl)) d_M_number_107 ⟨Nat.le_of_ble_eq_true rfl, Nat.le_of_ble_eq_true rfl⟩) hP hD hS hA [0, 1, 2, 3, 4] [] rfl rfl (by decide) (by decide) (fun  u H locs hw hP hD hS => ?_)
            subst hw
            have hP : va_P D dd_cl [((h 12), .inr (4, [.long tk, .ref (h 13), .int (nI mv), .ref (h 14), .ref (h 15), .int (nI ((z + ((sg ++ dd_dsv v n cq) : List Int32).length) + 1)), .ref (h 16)])), ((h 13), .inl (k 0, 200, .inr (.inl op))), ((h 14), .inl (k 1, 520, .inl mf)), ((h 15), .inl (k 0, 520, .inr (.inl mb))), ((h 16), .inl (k 1, 120, .inl (upd (dd_app tx z (sg ++ dd_dsv v n cq)) (z + ((sg ++ dd_dsv v n cq) : List Int32).length) (dd_dg (dd_dv (n - 1 - cq) v)))))] H := hP.sub [0, 1, 2, 3, 4] rfl
            have hD : va_D A [((h 12), .inr (4, [.long tk, .ref (h 13), .int (nI mv), .ref (h 14), .ref (h 15), .int (nI ((z + ((sg ++ dd_dsv v n cq) : List Int32).length) + 1)), .ref (h 16)])), ((h 13), .inl (k 0, 200, .inr (.inl op))), ((h 14), .inl (k 1, 520, .inl mf)), ((h 15), .inl (k 0, 520, .inr (.inl mb))), ((h 16), .inl (k 1, 120, .inl (upd (dd_app tx z (sg ++ dd_dsv v n cq)) (z + ((sg ++ dd_dsv v n cq) : List Int32).length) (dd_dg (dd_dv (n - 1 - cq) v)))))] := hD.sub [0, 1, 2, 3, 4] (by decide) rfl
            refine lv_iinc (v := (nI (n - (cq + 1)) - 1)) (lv' := [(4, .int (nI (n - (cq + 1)) - 1)), (7, .long ((dd_dv (n - 1 - cq) v) - (dd_dv (n - 1 - cq) v) / 10 * 10)), (5, .long (dd_dv (n - 1 - cq) v)), (1, .long v), (0, .ref (h 12))]) hx hb d_M_number_110 hl (k := 2) rfl (by rw [← dd_ix hlt2]; exact dd_decx hlt2) (by decide) rfl (fun ls hl => ?_)
            refine lv_goto (tgt := 47) hx hb d_M_number_113 (by decide) ?_
            rw [dd_app_ds, dd_len_ds] at hP hD
            exact ih47 (ls, (cq + 1)) _ _ ⟨lv_sub hl [0, 3, 4] rfl, hlt2, hP, hD, hS⟩ (by dsimp only; omega)
          refine lv_lload hx hb d_M_number_90 (lv_at hl 0 rfl) ?_
          refine lv_lconst (v := 0) hx hb d_M_number_92 (by decide) ?_
          refine dd_lc_ge (tgt := 103) hx hb d_M_number_93 d_M_number_94 (by decide) (fun c_7 => ?_) (fun c_7 => ?_)
          · refine lv_lload hx hb d_M_number_103 (lv_at hl 0 rfl) ?_
            exact jn105 _ ((if_pos c_7).symm)
          · refine lv_lload hx hb d_M_number_97 (lv_at hl 0 rfl) ?_
            refine lv_lneg hx hb d_M_number_99 ?_
            refine lv_goto (tgt := 105) hx hb d_M_number_100 (by decide) ?_
            exact jn105 _ ((if_neg c_7).symm)
        · have hltx : x < n - 1 - cq := dd_nle_nI (by omega) c_5
          refine lv_lload hx hb d_M_number_65 (lv_at hl 1 rfl) ?_
          refine lv_ldc2 (v := 10) hx hb hown (htb _ tb_304) d_M_number_67 ?_
          refine lv_ldiv hx hb d_M_number_70 (by decide) ?_
          refine lv_topl (fun y_8 ey_8 => ?_)
          obtain rfl : y_8 = (dd_dv (x + 1) v) := ey_8.trans rfl
          refine lv_lstore (lv' := [(5, .long (dd_dv (x + 1) v)), (7, .int (nI x)), (4, .int (nI (n - 1 - cq))), (1, .long v), (0, .ref (h 12))]) hx hb d_M_number_71 hl (by decide) rfl (fun ls hl => ?_)
          refine lv_iinc (v := (nI (x + 1))) (lv' := [(7, .int (nI (x + 1))), (5, .long (dd_dv (x + 1) v)), (4, .int (nI (n - 1 - cq))), (1, .long v), (0, .ref (h 12))]) hx hb d_M_number_73 hl (k := 1) rfl (dd_inc x) (by decide) rfl (fun ls hl => ?_)
          refine lv_goto (tgt := 58) hx hb d_M_number_76 (by decide) ?_
          exact ih58 (ls, (x + 1)) _ _ ⟨lv_sub hl [0, 1, 2, 3, 4] rfl, hltx, hP, hD, hS⟩ (by dsimp only; omega)
    · have hlt : i < n := by
        rcases Nat.lt_or_ge i n with q | q
        · exact q
        · obtain rfl : i = n := by omega
          exact absurd hn.2.2.1 c_2
      refine lv_iinc (v := (nI (i + 1))) (lv' := [(3, .int (nI (i + 1))), (4, .long (dd_dv i v)), (1, .long v), (0, .ref (h 12))]) hx hb d_M_number_28 hl (k := 1) rfl (dd_inc i) (by decide) rfl (fun ls hl => ?_)
      refine lv_lload hx hb d_M_number_31 (lv_at hl 1 rfl) ?_
      refine lv_ldc2 (v := 10) hx hb hown (htb _ tb_304) d_M_number_33 ?_
      refine lv_ldiv hx hb d_M_number_36 (by decide) ?_
      refine lv_topl (fun y_9 ey_9 => ?_)
      obtain rfl : y_9 = (dd_dv (i + 1) v) := ey_9.trans rfl
      refine lv_lstore (lv' := [(4, .long (dd_dv (i + 1) v)), (3, .int (nI (i + 1))), (1, .long v), (0, .ref (h 12))]) hx hb d_M_number_37 hl (by decide) rfl (fun ls hl => ?_)
      refine lv_goto (tgt := 21) hx hb d_M_number_39 (by decide) ?_
      exact ih21 (ls, (i + 1)) _ _ ⟨lv_sub hl [0, 1, 2, 3] rfl, by omega, hlt, hP, hD, hS⟩ (by dsimp only; omega)
  refine lv_lload_n hx hb d_M_number_0 rfl (lv_at hl 1 rfl) ?_
  refine lv_lconst (v := 0) hx hb d_M_number_1 (by decide) ?_
  refine dd_lc_ge (tgt := 12) hx hb d_M_number_2 d_M_number_3 (by decide) (fun c_10 => ?_) (fun c_10 => ?_)
  · exact jn12 [] _ _ ⟨(if_pos c_10).symm, hP, hD, hS⟩
  · refine lv_aload_n hx hb d_M_number_6 rfl (lv_at hl 0 rfl) ?_
    refine lv_bipush (v := 45) hx hb d_M_number_7 (by decide) ?_
    have hPc := hP.sub (ws' := [((h 12), .inr (4, [.long tk, .ref (h 13), .int (nI mv), .ref (h 14), .ref (h 15), .int (nI z), .ref (h 16)])), ((h 13), .inl (k 0, 200, .inr (.inl op))), ((h 14), .inl (k 1, 520, .inl mf)), ((h 15), .inl (k 0, 520, .inr (.inl mb))), ((h 16), .inl (k 1, 120, .inl tx))]) [0, 1, 2, 3, 4] rfl
    have hDc := hD.sub (ws' := [((h 12), .inr (4, [.long tk, .ref (h 13), .int (nI mv), .ref (h 14), .ref (h 15), .int (nI z), .ref (h 16)])), ((h 13), .inl (k 0, 200, .inr (.inl op))), ((h 14), .inl (k 1, 520, .inl mf)), ((h 15), .inl (k 0, 520, .inr (.inl mb))), ((h 16), .inl (k 1, 120, .inl tx))]) [0, 1, 2, 3, 4] (by decide) rfl
    refine dd_mv (wc := [((h 12), .inr (4, [.long tk, .ref (h 13), .int (nI mv), .ref (h 14), .ref (h 15), .int (nI z), .ref (h 16)])), ((h 13), .inl (k 0, 200, .inr (.inl op))), ((h 14), .inl (k 1, 520, .inl mf)), ((h 15), .inl (k 0, 520, .inr (.inl mb))), ((h 16), .inl (k 1, 120, .inl tx))]) (wr := []) (va_runV (As := [.int 45]) (rest := []) ⟨hx, hb, hml, hown, htb⟩ (c_M_put l D k h s.heap.size tk op mv mf mb z tx (by omega) 45) (cwV 1 htb (dd_gV tb_296 tb_298 tb_p2 tb_7 tb_299) rfl rfl rfl hd_M_put ⟨Nat.le_of_ble_eq_true rfl, Nat.le_of_ble_eq_true rfl⟩) ⟨dd_PM.bl, va_recv hK hPc (ci := 4) (q0 := 0) rfl rfl, dd_PM.of hPc hDc hK hN⟩ rfl rfl hl.1 rfl (lv_room (Nat.le_of_ble_eq_true rfl)) d_M_number_9 ⟨Nat.le_of_ble_eq_true rfl, Nat.le_of_ble_eq_true rfl⟩) hP hD hS hA [0, 1, 2, 3, 4] [] rfl rfl (by decide) (by decide) (fun  u H locs hw hP hD hS => ?_)
    subst hw
    have hP : va_P D dd_cl [((h 12), .inr (4, [.long tk, .ref (h 13), .int (nI mv), .ref (h 14), .ref (h 15), .int (nI (z + 1)), .ref (h 16)])), ((h 13), .inl (k 0, 200, .inr (.inl op))), ((h 14), .inl (k 1, 520, .inl mf)), ((h 15), .inl (k 0, 520, .inr (.inl mb))), ((h 16), .inl (k 1, 120, .inl (upd tx z 45)))] H := hP.sub [0, 1, 2, 3, 4] rfl
    have hD : va_D A [((h 12), .inr (4, [.long tk, .ref (h 13), .int (nI mv), .ref (h 14), .ref (h 15), .int (nI (z + 1)), .ref (h 16)])), ((h 13), .inl (k 0, 200, .inr (.inl op))), ((h 14), .inl (k 1, 520, .inl mf)), ((h 15), .inl (k 0, 520, .inr (.inl mb))), ((h 16), .inl (k 1, 120, .inl (upd tx z 45)))] := hD.sub [0, 1, 2, 3, 4] (by decide) rfl
    exact jn12 [45] _ _ ⟨(if_neg c_10).symm, hP, hD, hS⟩
set_option maxHeartbeats 4000000 in
set_option maxRecDepth 100000 in
theorem c_M_write_bad (l : Launch) (D : va_G) (k : Nat → ClassId) (h : Nat → Nat) (sz : Nat) (tk : Int64) (op : Nat → Int64) (mv : Nat) (mf : Nat → Int32) (mb : Nat → Int64) (wr : Int32) (tx : Nat → Int32) (q : Int32) (hbad : dd_isP q = 0) : Met l y_M_write w_M_write ({ frames := 2, cells := 0, slots := 0, locals := 49 }) (dd_PM D k sz (dd_wM k h (tk, op, nI mv, mf, mb, wr, tx)) [.ref (h 12), .int q]) (dd_Qi D (fun r (u : dd_MS) => r = -1 ∧ u = (tk, op, nI mv, mf, mb, wr, tx)) (fun u => dd_wM k h u) (va_A (dd_wM k h (tk, op, nI mv, mf, mb, wr, tx)) sz)) 0 0 (va_A (dd_wM k h (tk, op, nI mv, mf, mb, wr, tx)) sz) := by
  refine Met.ofW (cc := b_M_write) (maxL := 3) (ret := (some FieldType.int)) (by decide) rfl ?_
  intro p e s m args below meth c s₁ B hml hv
  obtain ⟨rfl, hsz, hP, hD0, hK, hN⟩ := hv
  have hx := B.exec
  have hb := B.bytes
  have hr := B.returns
  have htb := dd_tb (atoms_spec (ws := w_M_write) B.pre)
  have hown : s.vm.findClass "DayDeskModel" = some m.cls := findClass_of_methodNamed B.named
  have hlocks := B.notSynchronized
  subst hsz
  have hD := hD0.self (sz := s.heap.size)
  generalize hAe : va_A (dd_wM k h (tk, op, nI mv, mf, mb, wr, tx)) s.heap.size = A at hD ⊢
  have hA : ∀ q : Nat, s.heap.size ≤ q → A q := fun q h => by rw [← hAe]; exact Or.inr h
  have hS : va_S A s.heap s.heap [] := va_S.rf
  have hP : va_P D dd_cl [((h 12), .inr (4, [.long tk, .ref (h 13), .int (nI mv), .ref (h 14), .ref (h 15), .int wr, .ref (h 16)])), ((h 13), .inl (k 0, 200, .inr (.inl op))), ((h 14), .inl (k 1, 520, .inl mf)), ((h 15), .inl (k 0, 520, .inr (.inl mb))), ((h 16), .inl (k 1, 120, .inl tx))] s.heap := hP
  have hD : va_D A [((h 12), .inr (4, [.long tk, .ref (h 13), .int (nI mv), .ref (h 14), .ref (h 15), .int wr, .ref (h 16)])), ((h 13), .inl (k 0, 200, .inr (.inl op))), ((h 14), .inl (k 1, 520, .inl mf)), ((h 15), .inl (k 0, 520, .inr (.inl mb))), ((h 16), .inl (k 1, 120, .inl tx))] := hD
  have hl := lv_entry ([.ref (h 12), .int q]) (n := 3) (Nat.le_of_ble_eq_true rfl)
  rw [lg_entry_eq]
  generalize (lg_sl ([.ref (h 12), .int q]) ++ List.replicate (3 - (lg_sl ([.ref (h 12), .int q])).length) Slot.unset).toArray = ls at hl ⊢
  have hl : lv_has ls 3 [(0, .ref (h 12)), (1, .int q)] := hl
  refine lv_iload_n hx hb d_M_write_0 rfl (lv_at hl 1 rfl) ?_
  refine vp_callSi (va_Run.run (va_runS (As := [.int q]) (rest := []) ⟨hx, hb, hml, hown, htb⟩ (c_M_isPosition l q) (va_cwS 1 htb (dd_gS tb_253 tb_254 tb_7 tb_255) rfl rfl rfl hd_M_isPosition.2 ⟨Nat.le_of_ble_eq_true rfl, Nat.le_of_ble_eq_true rfl⟩) ⟨dd_PS.bl, dd_PS.of⟩ rfl rfl hl.1 rfl (lv_room (Nat.le_of_ble_eq_true rfl)) d_M_write_1 ⟨Nat.le_of_ble_eq_true rfl, Nat.le_of_ble_eq_true rfl⟩)) (fun r_1 er_1 => ?_)
  subst er_1
  refine lv_if_ne (tgt := 9) hx hb d_M_write_4 (by decide) (fun c_2 => ?_) (fun c_2 => ?_)
  · exact absurd hbad c_2
  · refine lv_iconst (v := (-1)) hx hb d_M_write_7 (by decide) ?_
    exact W.iret (v := (-1)) hx hb hr (fun t ht hW => ⟨⟨(-1), (tk, op, nI mv, mf, mb, wr, tx), rfl, ⟨rfl, rfl⟩, by rw [ht]; exact hP, hD⟩, hS.F ht⟩) hS.2.2 d_M_write_8
set_option maxHeartbeats 4000000 in
set_option maxRecDepth 100000 in
theorem c_M_write (l : Launch) (D : va_G) (k : Nat → ClassId) (h : Nat → Nat) (sz : Nat) (tk : Int64) (op : Nat → Int64) (mv : Nat) (mf : Nat → Int32) (mb : Nat → Int64) (wr : Int32) (tx : Nat → Int32) (hmv : mv ≤ 520) (j : Nat) (hj : j < 200) (nn : Nat → Nat) (hnn : ∀ q, q < 5 → dd_isN (dd_rowM op mf mb mv (nI j) (nI q)) (nn q)) (gg : Nat → List Int32) (hgg : ∀ q, q < 5 → gg q = dd_txt (dd_rowM op mf mb mv (nI j) (nI q)) (nn q)) : Met l y_M_write w_M_write ({ frames := 2, cells := 0, slots := 0, locals := 49 }) (dd_PM D k sz (dd_wM k h (tk, op, nI mv, mf, mb, wr, tx)) [.ref (h 12), .int (nI j)]) (dd_Qi D (fun r (u : dd_MS) => r = nI (dd_rt gg 5).length ∧ u = (tk, op, nI mv, mf, mb, nI (dd_rt gg 5).length, dd_app tx 0 (dd_rt gg 5))) (fun u => dd_wM k h u) (va_A (dd_wM k h (tk, op, nI mv, mf, mb, wr, tx)) sz)) 0 0 (va_A (dd_wM k h (tk, op, nI mv, mf, mb, wr, tx)) sz) := by
  refine Met.ofW (cc := b_M_write) (maxL := 3) (ret := (some FieldType.int)) (by decide) rfl ?_
  intro p e s m args below meth c s₁ B hml hv
  obtain ⟨rfl, hsz, hP, hD0, hK, hN⟩ := hv
  have hx := B.exec
  have hb := B.bytes
  have hr := B.returns
  have htb := dd_tb (atoms_spec (ws := w_M_write) B.pre)
  have hown : s.vm.findClass "DayDeskModel" = some m.cls := findClass_of_methodNamed B.named
  have hlocks := B.notSynchronized
  subst hsz
  have hD := hD0.self (sz := s.heap.size)
  generalize hAe : va_A (dd_wM k h (tk, op, nI mv, mf, mb, wr, tx)) s.heap.size = A at hD ⊢
  have hA : ∀ q : Nat, s.heap.size ≤ q → A q := fun q h => by rw [← hAe]; exact Or.inr h
  have hS : va_S A s.heap s.heap [] := va_S.rf
  have hP : va_P D dd_cl [((h 12), .inr (4, [.long tk, .ref (h 13), .int (nI mv), .ref (h 14), .ref (h 15), .int wr, .ref (h 16)])), ((h 13), .inl (k 0, 200, .inr (.inl op))), ((h 14), .inl (k 1, 520, .inl mf)), ((h 15), .inl (k 0, 520, .inr (.inl mb))), ((h 16), .inl (k 1, 120, .inl tx))] s.heap := hP
  have hD : va_D A [((h 12), .inr (4, [.long tk, .ref (h 13), .int (nI mv), .ref (h 14), .ref (h 15), .int wr, .ref (h 16)])), ((h 13), .inl (k 0, 200, .inr (.inl op))), ((h 14), .inl (k 1, 520, .inl mf)), ((h 15), .inl (k 0, 520, .inr (.inl mb))), ((h 16), .inl (k 1, 120, .inl tx))] := hD
  have hl := lv_entry ([.ref (h 12), .int (nI j)]) (n := 3) (Nat.le_of_ble_eq_true rfl)
  rw [lg_entry_eq]
  generalize (lg_sl ([.ref (h 12), .int (nI j)]) ++ List.replicate (3 - (lg_sl ([.ref (h 12), .int (nI j)])).length) Slot.unset).toArray = ls at hl ⊢
  have hl : lv_has ls 3 [(0, .ref (h 12)), (1, .int (nI j))] := hl
  have hgl : ∀ q, q < 5 → (gg q).length ≤ 20 := fun q hq => by rw [hgg q hq]; exact dd_txt_len (hnn q hq)
  refine lv_iload_n hx hb d_M_write_0 rfl (lv_at hl 1 rfl) ?_
  refine vp_callSi (va_Run.run (va_runS (As := [.int (nI j)]) (rest := []) ⟨hx, hb, hml, hown, htb⟩ (c_M_isPosition l (nI j)) (va_cwS 1 htb (dd_gS tb_253 tb_254 tb_7 tb_255) rfl rfl rfl hd_M_isPosition.2 ⟨Nat.le_of_ble_eq_true rfl, Nat.le_of_ble_eq_true rfl⟩) ⟨dd_PS.bl, dd_PS.of⟩ rfl rfl hl.1 rfl (lv_room (Nat.le_of_ble_eq_true rfl)) d_M_write_1 ⟨Nat.le_of_ble_eq_true rfl, Nat.le_of_ble_eq_true rfl⟩)) (fun r_1 er_1 => ?_)
  subst er_1
  refine lv_if_ne (tgt := 9) hx hb d_M_write_4 (by decide) (fun c_2 => ?_) (fun c_2 => ?_)
  · refine lv_aload_n hx hb d_M_write_9 rfl (lv_at hl 0 rfl) ?_
    refine lv_iconst (v := 0) hx hb d_M_write_10 (by decide) ?_
    refine lv_topi (fun y_3 ey_3 => ?_)
    obtain rfl : y_3 = (nI 0) := ey_3.trans nI_0.symm
    refine va_put (D := D) (ci := 4) (v := .int (nI 0)) (ty := .int) (C := R_M) (T := F_M) (N := 7) hx hb htb i_M t_M t_M_ok n_M hown hK hP hD hS 0 rfl rfl 5 (by decide) (htb _ tb_219) (fun _ h9 => h9) rfl (by decide +kernel) rfl rfl (Nat.le_of_ble_eq_true rfl) d_M_write_11 (fun H locs hP hD hS => ?_)
    have hP : va_P D dd_cl [((h 12), .inr (4, [.long tk, .ref (h 13), .int (nI mv), .ref (h 14), .ref (h 15), .int (nI 0), .ref (h 16)])), ((h 13), .inl (k 0, 200, .inr (.inl op))), ((h 14), .inl (k 1, 520, .inl mf)), ((h 15), .inl (k 0, 520, .inr (.inl mb))), ((h 16), .inl (k 1, 120, .inl tx))] H := hP
    have hD : va_D A [((h 12), .inr (4, [.long tk, .ref (h 13), .int (nI mv), .ref (h 14), .ref (h 15), .int (nI 0), .ref (h 16)])), ((h 13), .inl (k 0, 200, .inr (.inl op))), ((h 14), .inl (k 1, 520, .inl mf)), ((h 15), .inl (k 0, 520, .inr (.inl mb))), ((h 16), .inl (k 1, 120, .inl tx))] := hD
    refine lv_iconst (v := 0) hx hb d_M_write_14 (by decide) ?_
    refine lv_istore_n (lv' := [(2, .int 0), (0, .ref (h 12)), (1, .int (nI j))]) hx hb d_M_write_15 rfl hl (by decide) rfl (fun ls hl => ?_)
    refine dd_loop (α := Array Slot × Nat) (I := fun a H locs => (lv_has a.1 3 [(2, .int (nI a.2)), (1, .int (nI j)), (0, .ref (h 12))]) ∧ (a.2 ≤ 5) ∧ (va_P D dd_cl [((h 12), .inr (4, [.long tk, .ref (h 13), .int (nI mv), .ref (h 14), .ref (h 15), .int (nI (dd_rt gg a.2).length), .ref (h 16)])), ((h 13), .inl (k 0, 200, .inr (.inl op))), ((h 14), .inl (k 1, 520, .inl mf)), ((h 15), .inl (k 0, 520, .inr (.inl mb))), ((h 16), .inl (k 1, 120, .inl (dd_app tx 0 (dd_rt gg a.2))))] H) ∧ (va_D A [((h 12), .inr (4, [.long tk, .ref (h 13), .int (nI mv), .ref (h 14), .ref (h 15), .int (nI (dd_rt gg a.2).length), .ref (h 16)])), ((h 13), .inl (k 0, 200, .inr (.inl op))), ((h 14), .inl (k 1, 520, .inl mf)), ((h 15), .inl (k 0, 520, .inr (.inl mb))), ((h 16), .inl (k 1, 120, .inl (dd_app tx 0 (dd_rt gg a.2))))]) ∧ (va_S A s.heap H locs)) (g := fun a => F0 m 16 a.1 []) (μ := fun a => 5 - a.2) (fun a H locs hI ih16 => ?_) (ls, 0) ⟨lv_sub hl [0, 2, 1] rfl, Nat.zero_le 5, hP, hD, hS⟩
    obtain ⟨ls, q⟩ := a
    obtain ⟨hl, hq, hP, hD, hS⟩ := hI
    have hl : lv_has ls 3 [(2, .int (nI q)), (1, .int (nI j)), (0, .ref (h 12))] := hl
    have hq : q ≤ 5 := hq
    have hP : va_P D dd_cl [((h 12), .inr (4, [.long tk, .ref (h 13), .int (nI mv), .ref (h 14), .ref (h 15), .int (nI (dd_rt gg q).length), .ref (h 16)])), ((h 13), .inl (k 0, 200, .inr (.inl op))), ((h 14), .inl (k 1, 520, .inl mf)), ((h 15), .inl (k 0, 520, .inr (.inl mb))), ((h 16), .inl (k 1, 120, .inl (dd_app tx 0 (dd_rt gg q))))] H := hP
    have hD : va_D A [((h 12), .inr (4, [.long tk, .ref (h 13), .int (nI mv), .ref (h 14), .ref (h 15), .int (nI (dd_rt gg q).length), .ref (h 16)])), ((h 13), .inl (k 0, 200, .inr (.inl op))), ((h 14), .inl (k 1, 520, .inl mf)), ((h 15), .inl (k 0, 520, .inr (.inl mb))), ((h 16), .inl (k 1, 120, .inl (dd_app tx 0 (dd_rt gg q))))] := hD
    have hS : va_S A s.heap H locs := hS
    refine W.eq (g2 := F0 m 16 ls []) rfl ?_
    refine lv_iload_n hx hb d_M_write_16 rfl (lv_at hl 0 rfl) ?_
    refine lv_iconst (v := 5) hx hb d_M_write_17 (by decide) ?_
    refine lv_icmp_ge (tgt := 47) hx hb d_M_write_18 (by decide) (fun c_4 => ?_) (fun c_4 => ?_)
    · have e5 : q = 5 := Nat.le_antisymm hq (dd_le_nI (a := 5) (by decide) (by omega) c_4)
      rw [e5] at hP hD
      have hP : va_P D dd_cl [((h 12), .inr (4, [.long tk, .ref (h 13), .int (nI mv), .ref (h 14), .ref (h 15), .int (nI (dd_rt gg 5).length), .ref (h 16)])), ((h 13), .inl (k 0, 200, .inr (.inl op))), ((h 14), .inl (k 1, 520, .inl mf)), ((h 15), .inl (k 0, 520, .inr (.inl mb))), ((h 16), .inl (k 1, 120, .inl (dd_app tx 0 (dd_rt gg 5))))] H := hP
      have hD : va_D A [((h 12), .inr (4, [.long tk, .ref (h 13), .int (nI mv), .ref (h 14), .ref (h 15), .int (nI (dd_rt gg 5).length), .ref (h 16)])), ((h 13), .inl (k 0, 200, .inr (.inl op))), ((h 14), .inl (k 1, 520, .inl mf)), ((h 15), .inl (k 0, 520, .inr (.inl mb))), ((h 16), .inl (k 1, 120, .inl (dd_app tx 0 (dd_rt gg 5))))] := hD
      refine lv_aload_n hx hb d_M_write_47 rfl (lv_at hl 2 rfl) ?_
      refine va_get (D := D) (ci := 4) (v := .int (nI (dd_rt gg 5).length)) (C := R_M) (T := F_M) (N := 7) hx hb htb i_M hown hK hP 0 rfl rfl 5 (by decide) (htb _ tb_219) (fun _ h9 => h9) rfl d_M_write_48 ?_
      exact W.iret (v := (nI (dd_rt gg 5).length)) hx hb hr (fun t ht hW => ⟨⟨(nI (dd_rt gg 5).length), (tk, op, (nI mv), mf, mb, (nI (dd_rt gg 5).length), (dd_app tx 0 (dd_rt gg 5))), rfl, ⟨rfl, rfl⟩, by rw [ht]; exact hP, hD⟩, hS.F ht⟩) hS.2.2 d_M_write_51
    · have hlt : q < 5 := dd_nle_nI (a := 5) (by omega) c_4
      have hln := dd_rt_len hgl q hq
      refine dd_jnH (α := List Int32) (P := fun sp H locs => sp = (if q = 0 then [] else [32]) ∧ va_P D dd_cl [((h 12), .inr (4, [.long tk, .ref (h 13), .int (nI mv), .ref (h 14), .ref (h 15), .int (nI (dd_rt gg q ++ sp).length), .ref (h 16)])), ((h 13), .inl (k 0, 200, .inr (.inl op))), ((h 14), .inl (k 1, 520, .inl mf)), ((h 15), .inl (k 0, 520, .inr (.inl mb))), ((h 16), .inl (k 1, 120, .inl (dd_app tx 0 (dd_rt gg q ++ sp))))] H ∧ va_D A [((h 12), .inr (4, [.long tk, .ref (h 13), .int (nI mv), .ref (h 14), .ref (h 15), .int (nI (dd_rt gg q ++ sp).length), .ref (h 16)])), ((h 13), .inl (k 0, 200, .inr (.inl op))), ((h 14), .inl (k 1, 520, .inl mf)), ((h 15), .inl (k 0, 520, .inr (.inl mb))), ((h 16), .inl (k 1, 120, .inl (dd_app tx 0 (dd_rt gg q ++ sp))))] ∧ va_S A s.heap H locs) (g := fun _ => F0 m 31 ls []) (fun sp H locs hJ => ?_) (fun jn31 => ?_)
      · obtain ⟨esp, hP, hD, hS⟩ := hJ
        have hP : va_P D dd_cl [((h 12), .inr (4, [.long tk, .ref (h 13), .int (nI mv), .ref (h 14), .ref (h 15), .int (nI (dd_rt gg q ++ sp).length), .ref (h 16)])), ((h 13), .inl (k 0, 200, .inr (.inl op))), ((h 14), .inl (k 1, 520, .inl mf)), ((h 15), .inl (k 0, 520, .inr (.inl mb))), ((h 16), .inl (k 1, 120, .inl (dd_app tx 0 (dd_rt gg q ++ sp))))] H := hP
        have hD : va_D A [((h 12), .inr (4, [.long tk, .ref (h 13), .int (nI mv), .ref (h 14), .ref (h 15), .int (nI (dd_rt gg q ++ sp).length), .ref (h 16)])), ((h 13), .inl (k 0, 200, .inr (.inl op))), ((h 14), .inl (k 1, 520, .inl mf)), ((h 15), .inl (k 0, 520, .inr (.inl mb))), ((h 16), .inl (k 1, 120, .inl (dd_app tx 0 (dd_rt gg q ++ sp))))] := hD
        have hsl : sp.length ≤ 1 := by rw [esp]; split <;> simp
        have hl2 : (dd_rt gg q ++ sp).length = (dd_rt gg q).length + sp.length := List.length_append
        refine lv_aload_n hx hb d_M_write_31 rfl (lv_at hl 2 rfl) ?_
        refine lv_aload_n hx hb d_M_write_32 rfl (lv_at hl 2 rfl) ?_
        refine lv_iload_n hx hb d_M_write_33 rfl (lv_at hl 1 rfl) ?_
        refine lv_iload_n hx hb d_M_write_34 rfl (lv_at hl 0 rfl) ?_
        have hPc := hP.sub (ws' := [((h 12), .inr (4, [.long tk, .ref (h 13), .int (nI mv), .ref (h 14), .ref (h 15), .int (nI (dd_rt gg q ++ sp).length), .ref (h 16)])), ((h 13), .inl (k 0, 200, .inr (.inl op))), ((h 14), .inl (k 1, 520, .inl mf)), ((h 15), .inl (k 0, 520, .inr (.inl mb))), ((h 16), .inl (k 1, 120, .inl (dd_app tx 0 (dd_rt gg q ++ sp))))]) [0, 1, 2, 3, 4] rfl
        refine vp_callSl (va_Run.run (va_runV (As := [.int (nI j), .int (nI q)]) (rest := [.ref (h 12)]) ⟨hx, hb, hml, hown, htb⟩ (c_M_row l D k h tk op mv mf mb (nI (dd_rt gg q ++ sp).length) (dd_app tx 0 (dd_rt gg q ++ sp)) hmv (nI j) (nI q)) (cwV 2 htb (dd_gV tb_249 tb_250 tb_251 tb_7 tb_252) rfl rfl rfl hd_M_row ⟨Nat.le_of_ble_eq_true rfl, Nat.le_of_ble_eq_true rfl⟩) ⟨dd_PR.bl, va_recv hK hPc (ci := 4) (q0 := 0) rfl rfl, dd_PR.of hPc hK hN⟩ rfl rfl hl.1 rfl (lv_room (Nat.le_of_ble_eq_true rfl)) d_M_write_35 ⟨Nat.le_of_ble_eq_true rfl, Nat.le_of_ble_eq_true rfl⟩)) (fun r_5 er_5 => ?_)
        subst er_5
        have hPc := hP.sub (ws' := [((h 12), .inr (4, [.long tk, .ref (h 13), .int (nI mv), .ref (h 14), .ref (h 15), .int (nI (dd_rt gg q ++ sp).length), .ref (h 16)])), ((h 13), .inl (k 0, 200, .inr (.inl op))), ((h 14), .inl (k 1, 520, .inl mf)), ((h 15), .inl (k 0, 520, .inr (.inl mb))), ((h 16), .inl (k 1, 120, .inl (dd_app tx 0 (dd_rt gg q ++ sp))))]) [0, 1, 2, 3, 4] rfl
        have hDc := hD.sub (ws' := [((h 12), .inr (4, [.long tk, .ref (h 13), .int (nI mv), .ref (h 14), .ref (h 15), .int (nI (dd_rt gg q ++ sp).length), .ref (h 16)])), ((h 13), .inl (k 0, 200, .inr (.inl op))), ((h 14), .inl (k 1, 520, .inl mf)), ((h 15), .inl (k 0, 520, .inr (.inl mb))), ((h 16), .inl (k 1, 120, .inl (dd_app tx 0 (dd_rt gg q ++ sp))))]) [0, 1, 2, 3, 4] (by decide) rfl
        refine dd_mv (wc := [((h 12), .inr (4, [.long tk, .ref (h 13), .int (nI mv), .ref (h 14), .ref (h 15), .int (nI (dd_rt gg q ++ sp).length), .ref (h 16)])), ((h 13), .inl (k 0, 200, .inr (.inl op))), ((h 14), .inl (k 1, 520, .inl mf)), ((h 15), .inl (k 0, 520, .inr (.inl mb))), ((h 16), .inl (k 1, 120, .inl (dd_app tx 0 (dd_rt gg q ++ sp))))]) (wr := []) (va_runV (As := [.long (dd_rowM op mf mb mv (nI j) (nI q))]) (rest := []) ⟨hx, hb, hml, hown, htb⟩ (c_M_number l D k h H.size tk op mv mf mb ((dd_rt gg q ++ sp).length) (dd_app tx 0 (dd_rt gg q ++ sp)) (dd_rowM op mf mb mv (nI j) (nI q)) (nn q) (hnn q hlt) (by omega)) (cwV 1 htb (dd_gV tb_300 tb_302 tb_p3 tb_7 tb_303) rfl rfl rfl hd_M_number ⟨Nat.le_of_ble_eq_true rfl, Nat.le_of_ble_eq_true rfl⟩) ⟨dd_PM.bl, va_recv hK hPc (ci := 4) (q0 := 0) rfl rfl, dd_PM.of hPc hDc hK hN⟩ rfl rfl hl.1 rfl (lv_room (Nat.le_of_ble_eq_true rfl)) d_M_write_38 ⟨Nat.le_of_ble_eq_true rfl, Nat.le_of_ble_eq_true rfl⟩) hP hD hS hA [0, 1, 2, 3, 4] [] rfl rfl (by decide) (by decide) (fun  u H locs hw hP hD hS => ?_)
        subst hw
        have hP : va_P D dd_cl [((h 12), .inr (4, [.long tk, .ref (h 13), .int (nI mv), .ref (h 14), .ref (h 15), .int (nI (((dd_rt gg q ++ sp).length) + (dd_txt (dd_rowM op mf mb mv (nI j) (nI q)) (nn q)).length)), .ref (h 16)])), ((h 13), .inl (k 0, 200, .inr (.inl op))), ((h 14), .inl (k 1, 520, .inl mf)), ((h 15), .inl (k 0, 520, .inr (.inl mb))), ((h 16), .inl (k 1, 120, .inl (dd_app (dd_app tx 0 (dd_rt gg q ++ sp)) ((dd_rt gg q ++ sp).length) (dd_txt (dd_rowM op mf mb mv (nI j) (nI q)) (nn q)))))] H := hP.sub [0, 1, 2, 3, 4] rfl
        have hD : va_D A [((h 12), .inr (4, [.long tk, .ref (h 13), .int (nI mv), .ref (h 14), .ref (h 15), .int (nI (((dd_rt gg q ++ sp).length) + (dd_txt (dd_rowM op mf mb mv (nI j) (nI q)) (nn q)).length)), .ref (h 16)])), ((h 13), .inl (k 0, 200, .inr (.inl op))), ((h 14), .inl (k 1, 520, .inl mf)), ((h 15), .inl (k 0, 520, .inr (.inl mb))), ((h 16), .inl (k 1, 120, .inl (dd_app (dd_app tx 0 (dd_rt gg q ++ sp)) ((dd_rt gg q ++ sp).length) (dd_txt (dd_rowM op mf mb mv (nI j) (nI q)) (nn q)))))] := hD.sub [0, 1, 2, 3, 4] (by decide) rfl
        refine lv_iinc (v := (nI (q + 1))) (lv' := [(2, .int (nI (q + 1))), (1, .int (nI j)), (0, .ref (h 12))]) hx hb d_M_write_41 hl (k := 0) rfl (dd_inc q) (by decide) rfl (fun ls hl => ?_)
        refine lv_goto (tgt := 16) hx hb d_M_write_44 (by decide) ?_
        rw [← hgg q hlt, ← dd_app_app0, ← List.length_append, List.append_assoc, esp] at hP hD
        exact ih16 (ls, (q + 1)) _ _ ⟨lv_sub hl [0, 1, 2] rfl, hlt, hP, hD, hS⟩ (by dsimp only; omega)
      refine lv_iload_n hx hb d_M_write_21 rfl (lv_at hl 0 rfl) ?_
      refine lv_if_le (tgt := 31) hx hb d_M_write_22 (by decide) (fun c_6 => ?_) (fun c_6 => ?_)
      · have eq0 : q = 0 := by have := dd_le_nI (a := q) (b := 0) (by omega) (by decide) c_6; omega
        rw [← List.append_nil (dd_rt gg q)] at hP hD
        exact jn31 [] _ _ ⟨(if_pos eq0).symm, hP, hD, hS⟩
      · refine lv_aload_n hx hb d_M_write_25 rfl (lv_at hl 2 rfl) ?_
        refine lv_bipush (v := 32) hx hb d_M_write_26 (by decide) ?_
        have hPc := hP.sub (ws' := [((h 12), .inr (4, [.long tk, .ref (h 13), .int (nI mv), .ref (h 14), .ref (h 15), .int (nI (dd_rt gg q).length), .ref (h 16)])), ((h 13), .inl (k 0, 200, .inr (.inl op))), ((h 14), .inl (k 1, 520, .inl mf)), ((h 15), .inl (k 0, 520, .inr (.inl mb))), ((h 16), .inl (k 1, 120, .inl (dd_app tx 0 (dd_rt gg q))))]) [0, 1, 2, 3, 4] rfl
        have hDc := hD.sub (ws' := [((h 12), .inr (4, [.long tk, .ref (h 13), .int (nI mv), .ref (h 14), .ref (h 15), .int (nI (dd_rt gg q).length), .ref (h 16)])), ((h 13), .inl (k 0, 200, .inr (.inl op))), ((h 14), .inl (k 1, 520, .inl mf)), ((h 15), .inl (k 0, 520, .inr (.inl mb))), ((h 16), .inl (k 1, 120, .inl (dd_app tx 0 (dd_rt gg q))))]) [0, 1, 2, 3, 4] (by decide) rfl
        refine dd_mv (wc := [((h 12), .inr (4, [.long tk, .ref (h 13), .int (nI mv), .ref (h 14), .ref (h 15), .int (nI (dd_rt gg q).length), .ref (h 16)])), ((h 13), .inl (k 0, 200, .inr (.inl op))), ((h 14), .inl (k 1, 520, .inl mf)), ((h 15), .inl (k 0, 520, .inr (.inl mb))), ((h 16), .inl (k 1, 120, .inl (dd_app tx 0 (dd_rt gg q))))]) (wr := []) (va_runV (As := [.int 32]) (rest := []) ⟨hx, hb, hml, hown, htb⟩ (c_M_put l D k h H.size tk op mv mf mb ((dd_rt gg q).length) (dd_app tx 0 (dd_rt gg q)) (by omega) 32) (cwV 1 htb (dd_gV tb_296 tb_298 tb_p2 tb_7 tb_299) rfl rfl rfl hd_M_put ⟨Nat.le_of_ble_eq_true rfl, Nat.le_of_ble_eq_true rfl⟩) ⟨dd_PM.bl, va_recv hK hPc (ci := 4) (q0 := 0) rfl rfl, dd_PM.of hPc hDc hK hN⟩ rfl rfl hl.1 rfl (lv_room (Nat.le_of_ble_eq_true rfl)) d_M_write_28 ⟨Nat.le_of_ble_eq_true rfl, Nat.le_of_ble_eq_true rfl⟩) hP hD hS hA [0, 1, 2, 3, 4] [] rfl rfl (by decide) (by decide) (fun  u H locs hw hP hD hS => ?_)
        subst hw
        have hP : va_P D dd_cl [((h 12), .inr (4, [.long tk, .ref (h 13), .int (nI mv), .ref (h 14), .ref (h 15), .int (nI (((dd_rt gg q).length) + 1)), .ref (h 16)])), ((h 13), .inl (k 0, 200, .inr (.inl op))), ((h 14), .inl (k 1, 520, .inl mf)), ((h 15), .inl (k 0, 520, .inr (.inl mb))), ((h 16), .inl (k 1, 120, .inl (upd (dd_app tx 0 (dd_rt gg q)) ((dd_rt gg q).length) 32)))] H := hP.sub [0, 1, 2, 3, 4] rfl
        have hD : va_D A [((h 12), .inr (4, [.long tk, .ref (h 13), .int (nI mv), .ref (h 14), .ref (h 15), .int (nI (((dd_rt gg q).length) + 1)), .ref (h 16)])), ((h 13), .inl (k 0, 200, .inr (.inl op))), ((h 14), .inl (k 1, 520, .inl mf)), ((h 15), .inl (k 0, 520, .inr (.inl mb))), ((h 16), .inl (k 1, 120, .inl (upd (dd_app tx 0 (dd_rt gg q)) ((dd_rt gg q).length) 32)))] := hD.sub [0, 1, 2, 3, 4] (by decide) rfl
        have eq0 : ¬ q = 0 := fun e => by rw [e] at c_6; exact c_6 (by decide)
        have es := dd_app_snoc (dd_rt gg q) tx 0 32
        rw [Nat.zero_add] at es
        have el : (dd_rt gg q ++ [32]).length = (dd_rt gg q).length + 1 := by simp
        rw [← es, ← el] at hP hD
        exact jn31 [32] _ _ ⟨(if_neg eq0).symm, hP, hD, hS⟩
  · exact absurd c_2 (by rw [dd_isP_nI hj]; decide)
end
section
/-! what DayDesk's methods compute; their worlds -/
abbrev dd_cD (h : Nat → Nat) : Nat × va_E := (h 0, .inr (0, [.ref (h 1), .ref (h 2), .ref (h 8)]))
abbrev dd_wDS (k : Nat → ClassId) (h : Nat → Nat) (ss : dd_SS) : va_W := dd_cD h :: dd_wS k h ss
abbrev dd_wDCS (k : Nat → ClassId) (h : Nat → Nat) (u : Int32 × Int32 × dd_SS) : va_W := dd_cD h :: (dd_wC h u.1 u.2.1 ++ dd_wS k h u.2.2)
abbrev dd_wDSW (k : Nat → ClassId) (h : Nat → Nat) (ss : dd_SS) (u : dd_WS) : va_W := dd_cD h :: (dd_wS k h ss ++ dd_wW k h u)
abbrev dd_wDW (k : Nat → ClassId) (h : Nat → Nat) (u : dd_WS) : va_W := dd_cD h :: dd_wW k h u
abbrev dd_wE (k : Nat → ClassId) (ad h : Nat → Nat) (day tick : Int32) : va_W := dd_cD h :: dd_wCP k ad h day tick
def dd_psS (tick : Int32) (ss : dd_SS) : dd_SS := if dd_nxt tick = 0 then dd_bgS ss 200 else ss
theorem dd_pv4 (t : Int32) : dd_pv t &&& 4 = 0 ↔ ¬ t = 0 := by
  unfold dd_pv
  by_cases h0 : t = 0
  · subst h0
    decide
  · rw [if_neg h0]
    rcases dd_rsv01 t with e | e <;> rw [e] <;> by_cases h9 : t = 900 <;> simp [h9, h0] <;> decide
abbrev dd_ID : Type := Int32 × Int32 × dd_SS × Int32
def dd_itD (day tick : Int32) (ss : dd_SS) : Nat → dd_ID
  | 0 => (day, tick, ss, 0)
  | i + 1 => (dd_nxd (dd_itD day tick ss i).2.1 (dd_itD day tick ss i).1, dd_nxt (dd_itD day tick ss i).2.1, dd_psS (dd_itD day tick ss i).2.1 (dd_itD day tick ss i).2.2.1, (dd_itD day tick ss i).2.2.2 + (dd_pv (dd_nxt (dd_itD day tick ss i).2.1) &&& 1))
theorem dd_nb {v : Int32} (h : v = 0 ∨ v = 1) : narrow .boolean (.int v) = .int v := by
  rcases h with rfl | rfl <;> decide
theorem dd_mayD01 (i : Nat) (kind prio money : Int32) : dd_mayD i kind prio money = 0 ∨ dd_mayD i kind prio money = 1 := by
  unfold dd_mayD
  repeat' split
  all_goals simp
def dd_lkD (day tick : Int32) (n : Nat) (what : Int32) : Int32 := if what = 0 then day else if what = 1 then tick else if what = 2 then nI (dd_phN tick) else if what = 3 then nI n else if what = 4 then dd_tP tick else -1
def dd_okD (ss : dd_SS) (p : Int32) (v : Int64) : Int32 := if dd_isP p = 0 then 0 else if ¬ dd_cnS ss p.toNatClampNeg v = 0 then 1 else 0
def dd_rowD (ss : dd_SS) (p what : Int32) : Int64 := if dd_isP p = 0 then 0 else dd_ofS ss p.toNatClampNeg what
def dd_tdD (ss : dd_SS) (p : Int32) : Int32 := if dd_isP p = 0 then 0 else if dd_tdS ss p.toNatClampNeg = 0 then 0 else 1
end
section
/-! contracts: DayDesk -/
set_option maxHeartbeats 4000000 in
set_option maxRecDepth 100000 in
theorem c_D_pass (l : Launch) (D : va_G) (k : Nat → ClassId) (h : Nat → Nat) (sz : Nat) (day tick : Int32) (ss : dd_SS) : Met l y_D_pass w_D_pass ({ frames := 2, cells := 0, slots := 0, locals := 40 }) (dd_PM D k sz (dd_wDCS k h (day, tick, ss)) [.ref (h 0)]) (dd_Qi D (fun r (u : Int32 × Int32 × dd_SS) => r = dd_pv (dd_nxt tick) ∧ u = (dd_nxd tick day, dd_nxt tick, dd_psS tick ss)) (fun u => dd_wDCS k h u) (va_A (dd_wDCS k h (day, tick, ss)) sz)) 0 0 (va_A (dd_wDCS k h (day, tick, ss)) sz) := by
  refine Met.ofW (cc := b_D_pass) (maxL := 2) (ret := (some FieldType.int)) (by decide) rfl ?_
  intro p e s m args below meth c s₁ B hml hv
  obtain ⟨rfl, hsz, hP, hD0, hK, hN⟩ := hv
  have hx := B.exec
  have hb := B.bytes
  have hr := B.returns
  have htb := dd_tb (atoms_spec (ws := w_D_pass) B.pre)
  have hown : s.vm.findClass "DayDesk" = some m.cls := findClass_of_methodNamed B.named
  have hlocks := B.notSynchronized
  subst hsz
  have hD := hD0.self (sz := s.heap.size)
  generalize hAe : va_A (dd_wDCS k h (day, tick, ss)) s.heap.size = A at hD ⊢
  have hA : ∀ q : Nat, s.heap.size ≤ q → A q := fun q h => by rw [← hAe]; exact Or.inr h
  have hS : va_S A s.heap s.heap [] := va_S.rf
  have hP : va_P D dd_cl [((h 0), .inr (0, [.ref (h 1), .ref (h 2), .ref (h 8)])), ((h 1), .inr (1, [.ref (h 11), .int day, .int tick])), ((h 2), .inr (2, [.ref (h 3), .ref (h 4), .ref (h 5), .ref (h 6), .ref (h 7)])), ((h 3), .inl (k 0, 200, .inr (.inl ss.1))), ((h 4), .inl (k 0, 200, .inr (.inl ss.2.1))), ((h 5), .inl (k 0, 200, .inr (.inl ss.2.2.1))), ((h 6), .inl (k 0, 200, .inr (.inl ss.2.2.2.1))), ((h 7), .inl (k 1, 200, .inl ss.2.2.2.2))] s.heap := hP
  have hD : va_D A [((h 0), .inr (0, [.ref (h 1), .ref (h 2), .ref (h 8)])), ((h 1), .inr (1, [.ref (h 11), .int day, .int tick])), ((h 2), .inr (2, [.ref (h 3), .ref (h 4), .ref (h 5), .ref (h 6), .ref (h 7)])), ((h 3), .inl (k 0, 200, .inr (.inl ss.1))), ((h 4), .inl (k 0, 200, .inr (.inl ss.2.1))), ((h 5), .inl (k 0, 200, .inr (.inl ss.2.2.1))), ((h 6), .inl (k 0, 200, .inr (.inl ss.2.2.2.1))), ((h 7), .inl (k 1, 200, .inl ss.2.2.2.2))] := hD
  have hl := lv_entry ([.ref (h 0)]) (n := 2) (Nat.le_of_ble_eq_true rfl)
  rw [lg_entry_eq]
  generalize (lg_sl ([.ref (h 0)]) ++ List.replicate (2 - (lg_sl ([.ref (h 0)])).length) Slot.unset).toArray = ls at hl ⊢
  have hl : lv_has ls 2 [(0, .ref (h 0))] := hl
  refine lv_aload_n hx hb d_D_pass_0 rfl (lv_at hl 0 rfl) ?_
  refine va_get (D := D) (ci := 0) (v := .ref (h 1)) (C := R_D) (T := F_D) (N := 3) hx hb htb i_D hown hK hP 0 rfl rfl 0 (by decide) (htb _ tb_90) (fun _ h9 => h9) rfl d_D_pass_1 ?_
  have hPc := hP.sub (ws' := [((h 1), .inr (1, [.ref (h 11), .int day, .int tick]))]) [1] rfl
  have hDc := hD.sub (ws' := [((h 1), .inr (1, [.ref (h 11), .int day, .int tick]))]) [1] (by decide) rfl
  refine dd_mi (wc := [((h 1), .inr (1, [.ref (h 11), .int day, .int tick]))]) (wr := [((h 0), .inr (0, [.ref (h 1), .ref (h 2), .ref (h 8)])), ((h 2), .inr (2, [.ref (h 3), .ref (h 4), .ref (h 5), .ref (h 6), .ref (h 7)])), ((h 3), .inl (k 0, 200, .inr (.inl ss.1))), ((h 4), .inl (k 0, 200, .inr (.inl ss.2.1))), ((h 5), .inl (k 0, 200, .inr (.inl ss.2.2.1))), ((h 6), .inl (k 0, 200, .inr (.inl ss.2.2.2.1))), ((h 7), .inl (k 1, 200, .inl ss.2.2.2.2))]) (va_runV (As := []) (rest := []) ⟨hx, hb, hml, hown, htb⟩ (c_C_pass l D k h s.heap.size day tick) (cwV 0 htb (dd_gV tb_104 tb_105 tb_106 tb_2 tb_107) rfl rfl rfl hd_C_pass ⟨Nat.le_of_ble_eq_true rfl, Nat.le_of_ble_eq_true rfl⟩) ⟨dd_PM.bl, va_recv hK hPc (ci := 1) (q0 := 0) rfl rfl, dd_PM.of hPc hDc hK hN⟩ rfl rfl hl.1 rfl (lv_room (Nat.le_of_ble_eq_true rfl)) d_D_pass_4 ⟨Nat.le_of_ble_eq_true rfl, Nat.le_of_ble_eq_true rfl⟩) hP hD hS hA [1] [0, 2, 3, 4, 5, 6, 7] rfl rfl (by decide) (by decide) (fun r_1 u H locs hw hP hD hS => ?_)
  obtain ⟨rfl, rfl⟩ := hw
  have hP : va_P D dd_cl [((h 0), .inr (0, [.ref (h 1), .ref (h 2), .ref (h 8)])), ((h 1), .inr (1, [.ref (h 11), .int (dd_nxd tick day), .int (dd_nxt tick)])), ((h 2), .inr (2, [.ref (h 3), .ref (h 4), .ref (h 5), .ref (h 6), .ref (h 7)])), ((h 3), .inl (k 0, 200, .inr (.inl ss.1))), ((h 4), .inl (k 0, 200, .inr (.inl ss.2.1))), ((h 5), .inl (k 0, 200, .inr (.inl ss.2.2.1))), ((h 6), .inl (k 0, 200, .inr (.inl ss.2.2.2.1))), ((h 7), .inl (k 1, 200, .inl ss.2.2.2.2))] H := hP.sub [0, 7, 1, 2, 3, 4, 5, 6] rfl
  have hD : va_D A [((h 0), .inr (0, [.ref (h 1), .ref (h 2), .ref (h 8)])), ((h 1), .inr (1, [.ref (h 11), .int (dd_nxd tick day), .int (dd_nxt tick)])), ((h 2), .inr (2, [.ref (h 3), .ref (h 4), .ref (h 5), .ref (h 6), .ref (h 7)])), ((h 3), .inl (k 0, 200, .inr (.inl ss.1))), ((h 4), .inl (k 0, 200, .inr (.inl ss.2.1))), ((h 5), .inl (k 0, 200, .inr (.inl ss.2.2.1))), ((h 6), .inl (k 0, 200, .inr (.inl ss.2.2.2.1))), ((h 7), .inl (k 1, 200, .inl ss.2.2.2.2))] := hD.sub [0, 7, 1, 2, 3, 4, 5, 6] (by decide) rfl
  refine lv_istore_n (lv' := [(1, .int (dd_pv (dd_nxt tick))), (0, .ref (h 0))]) hx hb d_D_pass_7 rfl hl (by decide) rfl (fun ls hl => ?_)
  refine lv_iload_n hx hb d_D_pass_8 rfl (lv_at hl 0 rfl) ?_
  refine lv_iconst (v := 4) hx hb d_D_pass_9 (by decide) ?_
  refine lv_iand hx hb d_D_pass_10 ?_
  refine lv_if_eq (tgt := 21) hx hb d_D_pass_11 (by decide) (fun c_2 => ?_) (fun c_2 => ?_)
  · refine lv_iload_n hx hb d_D_pass_21 rfl (lv_at hl 0 rfl) ?_
    have hP : va_P D dd_cl (dd_wDCS k h (dd_nxd tick day, dd_nxt tick, dd_psS tick ss)) H := by rw [dd_psS, if_neg ((dd_pv4 _).mp c_2)]; exact hP
    have hD : va_D A (dd_wDCS k h (dd_nxd tick day, dd_nxt tick, dd_psS tick ss)) := by rw [dd_psS, if_neg ((dd_pv4 _).mp c_2)]; exact hD
    exact W.iret (v := (dd_pv (dd_nxt tick))) hx hb hr (fun t ht hW => ⟨⟨(dd_pv (dd_nxt tick)), (dd_nxd tick day, dd_nxt tick, dd_psS tick ss), rfl, ⟨rfl, rfl⟩, by rw [ht]; exact hP, hD⟩, hS.F ht⟩) hS.2.2 d_D_pass_22
  · refine lv_aload_n hx hb d_D_pass_14 rfl (lv_at hl 1 rfl) ?_
    refine va_get (D := D) (ci := 0) (v := .ref (h 2)) (C := R_D) (T := F_D) (N := 3) hx hb htb i_D hown hK hP 0 rfl rfl 1 (by decide) (htb _ tb_91) (fun _ h9 => h9) rfl d_D_pass_15 ?_
    have hPc := hP.sub (ws' := [((h 2), .inr (2, [.ref (h 3), .ref (h 4), .ref (h 5), .ref (h 6), .ref (h 7)])), ((h 3), .inl (k 0, 200, .inr (.inl ss.1))), ((h 4), .inl (k 0, 200, .inr (.inl ss.2.1))), ((h 5), .inl (k 0, 200, .inr (.inl ss.2.2.1))), ((h 6), .inl (k 0, 200, .inr (.inl ss.2.2.2.1))), ((h 7), .inl (k 1, 200, .inl ss.2.2.2.2))]) [2, 3, 4, 5, 6, 7] rfl
    have hDc := hD.sub (ws' := [((h 2), .inr (2, [.ref (h 3), .ref (h 4), .ref (h 5), .ref (h 6), .ref (h 7)])), ((h 3), .inl (k 0, 200, .inr (.inl ss.1))), ((h 4), .inl (k 0, 200, .inr (.inl ss.2.1))), ((h 5), .inl (k 0, 200, .inr (.inl ss.2.2.1))), ((h 6), .inl (k 0, 200, .inr (.inl ss.2.2.2.1))), ((h 7), .inl (k 1, 200, .inl ss.2.2.2.2))]) [2, 3, 4, 5, 6, 7] (by decide) rfl
    refine dd_mv (wc := [((h 2), .inr (2, [.ref (h 3), .ref (h 4), .ref (h 5), .ref (h 6), .ref (h 7)])), ((h 3), .inl (k 0, 200, .inr (.inl ss.1))), ((h 4), .inl (k 0, 200, .inr (.inl ss.2.1))), ((h 5), .inl (k 0, 200, .inr (.inl ss.2.2.1))), ((h 6), .inl (k 0, 200, .inr (.inl ss.2.2.2.1))), ((h 7), .inl (k 1, 200, .inl ss.2.2.2.2))]) (wr := [((h 0), .inr (0, [.ref (h 1), .ref (h 2), .ref (h 8)])), ((h 1), .inr (1, [.ref (h 11), .int (dd_nxd tick day), .int (dd_nxt tick)]))]) (va_runV (As := []) (rest := []) ⟨hx, hb, hml, hown, htb⟩ (c_S_begin l D k h H.size ss) (cwV 0 htb (dd_gV tb_111 tb_112 tb_113 tb_5 tb_114) rfl rfl rfl hd_S_begin ⟨Nat.le_of_ble_eq_true rfl, Nat.le_of_ble_eq_true rfl⟩) ⟨dd_PM.bl, va_recv hK hPc (ci := 2) (q0 := 0) rfl rfl, dd_PM.of hPc hDc hK hN⟩ rfl rfl hl.1 rfl (lv_room (Nat.le_of_ble_eq_true rfl)) d_D_pass_18 ⟨Nat.le_of_ble_eq_true rfl, Nat.le_of_ble_eq_true rfl⟩) hP hD hS hA [2, 3, 4, 5, 6, 7] [0, 1] rfl rfl (by decide) (by decide) (fun  u H locs hw hP hD hS => ?_)
    subst hw
    have hP : va_P D dd_cl [((h 0), .inr (0, [.ref (h 1), .ref (h 2), .ref (h 8)])), ((h 1), .inr (1, [.ref (h 11), .int (dd_nxd tick day), .int (dd_nxt tick)])), ((h 2), .inr (2, [.ref (h 3), .ref (h 4), .ref (h 5), .ref (h 6), .ref (h 7)])), ((h 3), .inl (k 0, 200, .inr (.inl ((dd_bgS ss 200).1)))), ((h 4), .inl (k 0, 200, .inr (.inl ((dd_bgS ss 200).2.1)))), ((h 5), .inl (k 0, 200, .inr (.inl ((dd_bgS ss 200).2.2.1)))), ((h 6), .inl (k 0, 200, .inr (.inl ((dd_bgS ss 200).2.2.2.1)))), ((h 7), .inl (k 1, 200, .inl ((dd_bgS ss 200).2.2.2.2)))] H := hP.sub [0, 1, 2, 3, 4, 5, 6, 7] rfl
    have hD : va_D A [((h 0), .inr (0, [.ref (h 1), .ref (h 2), .ref (h 8)])), ((h 1), .inr (1, [.ref (h 11), .int (dd_nxd tick day), .int (dd_nxt tick)])), ((h 2), .inr (2, [.ref (h 3), .ref (h 4), .ref (h 5), .ref (h 6), .ref (h 7)])), ((h 3), .inl (k 0, 200, .inr (.inl ((dd_bgS ss 200).1)))), ((h 4), .inl (k 0, 200, .inr (.inl ((dd_bgS ss 200).2.1)))), ((h 5), .inl (k 0, 200, .inr (.inl ((dd_bgS ss 200).2.2.1)))), ((h 6), .inl (k 0, 200, .inr (.inl ((dd_bgS ss 200).2.2.2.1)))), ((h 7), .inl (k 1, 200, .inl ((dd_bgS ss 200).2.2.2.2)))] := hD.sub [0, 1, 2, 3, 4, 5, 6, 7] (by decide) rfl
    refine lv_iload_n hx hb d_D_pass_21 rfl (lv_at hl 0 rfl) ?_
    have hP : va_P D dd_cl (dd_wDCS k h (dd_nxd tick day, dd_nxt tick, dd_psS tick ss)) H := by rw [dd_psS, if_pos (Classical.not_not.mp (fun q => c_2 ((dd_pv4 _).mpr q)))]; exact hP
    have hD : va_D A (dd_wDCS k h (dd_nxd tick day, dd_nxt tick, dd_psS tick ss)) := by rw [dd_psS, if_pos (Classical.not_not.mp (fun q => c_2 ((dd_pv4 _).mpr q)))]; exact hD
    exact W.iret (v := (dd_pv (dd_nxt tick))) hx hb hr (fun t ht hW => ⟨⟨(dd_pv (dd_nxt tick)), (dd_nxd tick day, dd_nxt tick, dd_psS tick ss), rfl, ⟨rfl, rfl⟩, by rw [ht]; exact hP, hD⟩, hS.F ht⟩) hS.2.2 d_D_pass_22
set_option maxHeartbeats 4000000 in
set_option maxRecDepth 100000 in
theorem c_D_skip_bad (l : Launch) (D : va_G) (k : Nat → ClassId) (h : Nat → Nat) (sz : Nat) (day tick : Int32) (ss : dd_SS) (n : Int32) (hbad : n < 1 ∨ ¬ n ≤ 100000) : Met l y_D_skip w_D_skip ({ frames := 3, cells := 0, slots := 0, locals := 61 }) (dd_PM D k sz (dd_wDCS k h (day, tick, ss)) [.ref (h 0), .int n]) (dd_Qi D (fun r (u : Int32 × Int32 × dd_SS) => r = -1 ∧ u = (day, tick, ss)) (fun u => dd_wDCS k h u) (va_A (dd_wDCS k h (day, tick, ss)) sz)) 0 0 (va_A (dd_wDCS k h (day, tick, ss)) sz) := by
  refine Met.ofW (cc := b_D_skip) (maxL := 4) (ret := (some FieldType.int)) (by decide) rfl ?_
  intro p e s m args below meth c s₁ B hml hv
  obtain ⟨rfl, hsz, hP, hD0, hK, hN⟩ := hv
  have hx := B.exec
  have hb := B.bytes
  have hr := B.returns
  have htb := dd_tb (atoms_spec (ws := w_D_skip) B.pre)
  have hown : s.vm.findClass "DayDesk" = some m.cls := findClass_of_methodNamed B.named
  have hlocks := B.notSynchronized
  subst hsz
  have hD := hD0.self (sz := s.heap.size)
  generalize hAe : va_A (dd_wDCS k h (day, tick, ss)) s.heap.size = A at hD ⊢
  have hA : ∀ q : Nat, s.heap.size ≤ q → A q := fun q h => by rw [← hAe]; exact Or.inr h
  have hS : va_S A s.heap s.heap [] := va_S.rf
  have hP : va_P D dd_cl [((h 0), .inr (0, [.ref (h 1), .ref (h 2), .ref (h 8)])), ((h 1), .inr (1, [.ref (h 11), .int day, .int tick])), ((h 2), .inr (2, [.ref (h 3), .ref (h 4), .ref (h 5), .ref (h 6), .ref (h 7)])), ((h 3), .inl (k 0, 200, .inr (.inl ss.1))), ((h 4), .inl (k 0, 200, .inr (.inl ss.2.1))), ((h 5), .inl (k 0, 200, .inr (.inl ss.2.2.1))), ((h 6), .inl (k 0, 200, .inr (.inl ss.2.2.2.1))), ((h 7), .inl (k 1, 200, .inl ss.2.2.2.2))] s.heap := hP
  have hD : va_D A [((h 0), .inr (0, [.ref (h 1), .ref (h 2), .ref (h 8)])), ((h 1), .inr (1, [.ref (h 11), .int day, .int tick])), ((h 2), .inr (2, [.ref (h 3), .ref (h 4), .ref (h 5), .ref (h 6), .ref (h 7)])), ((h 3), .inl (k 0, 200, .inr (.inl ss.1))), ((h 4), .inl (k 0, 200, .inr (.inl ss.2.1))), ((h 5), .inl (k 0, 200, .inr (.inl ss.2.2.1))), ((h 6), .inl (k 0, 200, .inr (.inl ss.2.2.2.1))), ((h 7), .inl (k 1, 200, .inl ss.2.2.2.2))] := hD
  have hl := lv_entry ([.ref (h 0), .int n]) (n := 4) (Nat.le_of_ble_eq_true rfl)
  rw [lg_entry_eq]
  generalize (lg_sl ([.ref (h 0), .int n]) ++ List.replicate (4 - (lg_sl ([.ref (h 0), .int n])).length) Slot.unset).toArray = ls at hl ⊢
  have hl : lv_has ls 4 [(0, .ref (h 0)), (1, .int n)] := hl
  refine lv_iload_n hx hb d_D_skip_0 rfl (lv_at hl 1 rfl) ?_
  refine lv_iconst (v := 1) hx hb d_D_skip_1 (by decide) ?_
  refine lv_icmp_lt (tgt := 11) hx hb d_D_skip_2 (by decide) (fun c_1 => ?_) (fun c_1 => ?_)
  · refine lv_iconst (v := (-1)) hx hb d_D_skip_11 (by decide) ?_
    exact W.iret (v := (-1)) hx hb hr (fun t ht hW => ⟨⟨(-1), (day, tick, ss), rfl, ⟨rfl, rfl⟩, by rw [ht]; exact hP, hD⟩, hS.F ht⟩) hS.2.2 d_D_skip_12
  · refine lv_iload_n hx hb d_D_skip_5 rfl (lv_at hl 1 rfl) ?_
    refine lv_ldc (v := 100000) hx hb hown (htb _ tb_119) d_D_skip_6 ?_
    refine lv_icmp_le (tgt := 13) hx hb d_D_skip_8 (by decide) (fun c_2 => ?_) (fun c_2 => ?_)
    · exact absurd (hbad.resolve_left c_1) (not_not_intro c_2)
    · refine lv_iconst (v := (-1)) hx hb d_D_skip_11 (by decide) ?_
      exact W.iret (v := (-1)) hx hb hr (fun t ht hW => ⟨⟨(-1), (day, tick, ss), rfl, ⟨rfl, rfl⟩, by rw [ht]; exact hP, hD⟩, hS.F ht⟩) hS.2.2 d_D_skip_12
set_option maxHeartbeats 4000000 in
set_option maxRecDepth 100000 in
theorem c_D_skip (l : Launch) (D : va_G) (k : Nat → ClassId) (h : Nat → Nat) (sz : Nat) (day tick : Int32) (ss : dd_SS) (N : Nat) (hN1 : 1 ≤ N) (hN2 : N ≤ 100000) : Met l y_D_skip w_D_skip ({ frames := 3, cells := 0, slots := 0, locals := 61 }) (dd_PM D k sz (dd_wDCS k h (day, tick, ss)) [.ref (h 0), .int (nI N)]) (dd_Qi D (fun r (u : Int32 × Int32 × dd_SS) => r = (dd_itD day tick ss N).2.2.2 ∧ u = ((dd_itD day tick ss N).1, (dd_itD day tick ss N).2.1, (dd_itD day tick ss N).2.2.1)) (fun u => dd_wDCS k h u) (va_A (dd_wDCS k h (day, tick, ss)) sz)) 0 0 (va_A (dd_wDCS k h (day, tick, ss)) sz) := by
  refine Met.ofW (cc := b_D_skip) (maxL := 4) (ret := (some FieldType.int)) (by decide) rfl ?_
  intro p e s m args below meth c s₁ B hml hv
  obtain ⟨rfl, hsz, hP, hD0, hK, hN⟩ := hv
  have hx := B.exec
  have hb := B.bytes
  have hr := B.returns
  have htb := dd_tb (atoms_spec (ws := w_D_skip) B.pre)
  have hown : s.vm.findClass "DayDesk" = some m.cls := findClass_of_methodNamed B.named
  have hlocks := B.notSynchronized
  subst hsz
  have hD := hD0.self (sz := s.heap.size)
  generalize hAe : va_A (dd_wDCS k h (day, tick, ss)) s.heap.size = A at hD ⊢
  have hA : ∀ q : Nat, s.heap.size ≤ q → A q := fun q h => by rw [← hAe]; exact Or.inr h
  have hS : va_S A s.heap s.heap [] := va_S.rf
  have hP : va_P D dd_cl [((h 0), .inr (0, [.ref (h 1), .ref (h 2), .ref (h 8)])), ((h 1), .inr (1, [.ref (h 11), .int day, .int tick])), ((h 2), .inr (2, [.ref (h 3), .ref (h 4), .ref (h 5), .ref (h 6), .ref (h 7)])), ((h 3), .inl (k 0, 200, .inr (.inl ss.1))), ((h 4), .inl (k 0, 200, .inr (.inl ss.2.1))), ((h 5), .inl (k 0, 200, .inr (.inl ss.2.2.1))), ((h 6), .inl (k 0, 200, .inr (.inl ss.2.2.2.1))), ((h 7), .inl (k 1, 200, .inl ss.2.2.2.2))] s.heap := hP
  have hD : va_D A [((h 0), .inr (0, [.ref (h 1), .ref (h 2), .ref (h 8)])), ((h 1), .inr (1, [.ref (h 11), .int day, .int tick])), ((h 2), .inr (2, [.ref (h 3), .ref (h 4), .ref (h 5), .ref (h 6), .ref (h 7)])), ((h 3), .inl (k 0, 200, .inr (.inl ss.1))), ((h 4), .inl (k 0, 200, .inr (.inl ss.2.1))), ((h 5), .inl (k 0, 200, .inr (.inl ss.2.2.1))), ((h 6), .inl (k 0, 200, .inr (.inl ss.2.2.2.1))), ((h 7), .inl (k 1, 200, .inl ss.2.2.2.2))] := hD
  have hl := lv_entry ([.ref (h 0), .int (nI N)]) (n := 4) (Nat.le_of_ble_eq_true rfl)
  rw [lg_entry_eq]
  generalize (lg_sl ([.ref (h 0), .int (nI N)]) ++ List.replicate (4 - (lg_sl ([.ref (h 0), .int (nI N)])).length) Slot.unset).toArray = ls at hl ⊢
  have hl : lv_has ls 4 [(0, .ref (h 0)), (1, .int (nI N))] := hl
  refine lv_iload_n hx hb d_D_skip_0 rfl (lv_at hl 1 rfl) ?_
  refine lv_iconst (v := 1) hx hb d_D_skip_1 (by decide) ?_
  refine lv_icmp_lt (tgt := 11) hx hb d_D_skip_2 (by decide) (fun c_1 => ?_) (fun c_1 => ?_)
  · exact absurd (nI_le (a := 1) (b := N) hN1 (by omega)) (dd_nle_of_lt c_1)
  · refine lv_iload_n hx hb d_D_skip_5 rfl (lv_at hl 1 rfl) ?_
    refine lv_ldc (v := 100000) hx hb hown (htb _ tb_119) d_D_skip_6 ?_
    refine lv_icmp_le (tgt := 13) hx hb d_D_skip_8 (by decide) (fun c_2 => ?_) (fun c_2 => ?_)
    · refine lv_iconst (v := 0) hx hb d_D_skip_13 (by decide) ?_
      refine lv_istore_n (lv' := [(2, .int 0), (0, .ref (h 0)), (1, .int (nI N))]) hx hb d_D_skip_14 rfl hl (by decide) rfl (fun ls hl => ?_)
      refine lv_iconst (v := 0) hx hb d_D_skip_15 (by decide) ?_
      refine lv_istore_n (lv' := [(3, .int 0), (2, .int 0), (0, .ref (h 0)), (1, .int (nI N))]) hx hb d_D_skip_16 rfl hl (by decide) rfl (fun ls hl => ?_)
      refine dd_loop (α := Array Slot × Nat) (I := fun a H locs => (lv_has a.1 4 [(3, .int (nI a.2)), (2, .int ((dd_itD day tick ss a.2).2.2.2)), (1, .int (nI N)), (0, .ref (h 0))]) ∧ (a.2 ≤ N) ∧ (va_P D dd_cl [((h 0), .inr (0, [.ref (h 1), .ref (h 2), .ref (h 8)])), ((h 1), .inr (1, [.ref (h 11), .int ((dd_itD day tick ss a.2).1), .int ((dd_itD day tick ss a.2).2.1)])), ((h 2), .inr (2, [.ref (h 3), .ref (h 4), .ref (h 5), .ref (h 6), .ref (h 7)])), ((h 3), .inl (k 0, 200, .inr (.inl ((dd_itD day tick ss a.2).2.2.1.1)))), ((h 4), .inl (k 0, 200, .inr (.inl ((dd_itD day tick ss a.2).2.2.1.2.1)))), ((h 5), .inl (k 0, 200, .inr (.inl ((dd_itD day tick ss a.2).2.2.1.2.2.1)))), ((h 6), .inl (k 0, 200, .inr (.inl ((dd_itD day tick ss a.2).2.2.1.2.2.2.1)))), ((h 7), .inl (k 1, 200, .inl ((dd_itD day tick ss a.2).2.2.1.2.2.2.2)))] H) ∧ (va_D A [((h 0), .inr (0, [.ref (h 1), .ref (h 2), .ref (h 8)])), ((h 1), .inr (1, [.ref (h 11), .int ((dd_itD day tick ss a.2).1), .int ((dd_itD day tick ss a.2).2.1)])), ((h 2), .inr (2, [.ref (h 3), .ref (h 4), .ref (h 5), .ref (h 6), .ref (h 7)])), ((h 3), .inl (k 0, 200, .inr (.inl ((dd_itD day tick ss a.2).2.2.1.1)))), ((h 4), .inl (k 0, 200, .inr (.inl ((dd_itD day tick ss a.2).2.2.1.2.1)))), ((h 5), .inl (k 0, 200, .inr (.inl ((dd_itD day tick ss a.2).2.2.1.2.2.1)))), ((h 6), .inl (k 0, 200, .inr (.inl ((dd_itD day tick ss a.2).2.2.1.2.2.2.1)))), ((h 7), .inl (k 1, 200, .inl ((dd_itD day tick ss a.2).2.2.1.2.2.2.2)))]) ∧ (va_S A s.heap H locs)) (g := fun a => F0 m 17 a.1 []) (μ := fun a => N - a.2) (fun a H locs hI ih17 => ?_) (ls, 0) ⟨lv_sub hl [0, 1, 3, 2] rfl, Nat.zero_le N, hP, hD, hS⟩
      obtain ⟨ls, i⟩ := a
      obtain ⟨hl, hi, hP, hD, hS⟩ := hI
      have hl : lv_has ls 4 [(3, .int (nI i)), (2, .int ((dd_itD day tick ss i).2.2.2)), (1, .int (nI N)), (0, .ref (h 0))] := hl
      have hi : i ≤ N := hi
      have hP : va_P D dd_cl [((h 0), .inr (0, [.ref (h 1), .ref (h 2), .ref (h 8)])), ((h 1), .inr (1, [.ref (h 11), .int ((dd_itD day tick ss i).1), .int ((dd_itD day tick ss i).2.1)])), ((h 2), .inr (2, [.ref (h 3), .ref (h 4), .ref (h 5), .ref (h 6), .ref (h 7)])), ((h 3), .inl (k 0, 200, .inr (.inl ((dd_itD day tick ss i).2.2.1.1)))), ((h 4), .inl (k 0, 200, .inr (.inl ((dd_itD day tick ss i).2.2.1.2.1)))), ((h 5), .inl (k 0, 200, .inr (.inl ((dd_itD day tick ss i).2.2.1.2.2.1)))), ((h 6), .inl (k 0, 200, .inr (.inl ((dd_itD day tick ss i).2.2.1.2.2.2.1)))), ((h 7), .inl (k 1, 200, .inl ((dd_itD day tick ss i).2.2.1.2.2.2.2)))] H := hP
      have hD : va_D A [((h 0), .inr (0, [.ref (h 1), .ref (h 2), .ref (h 8)])), ((h 1), .inr (1, [.ref (h 11), .int ((dd_itD day tick ss i).1), .int ((dd_itD day tick ss i).2.1)])), ((h 2), .inr (2, [.ref (h 3), .ref (h 4), .ref (h 5), .ref (h 6), .ref (h 7)])), ((h 3), .inl (k 0, 200, .inr (.inl ((dd_itD day tick ss i).2.2.1.1)))), ((h 4), .inl (k 0, 200, .inr (.inl ((dd_itD day tick ss i).2.2.1.2.1)))), ((h 5), .inl (k 0, 200, .inr (.inl ((dd_itD day tick ss i).2.2.1.2.2.1)))), ((h 6), .inl (k 0, 200, .inr (.inl ((dd_itD day tick ss i).2.2.1.2.2.2.1)))), ((h 7), .inl (k 1, 200, .inl ((dd_itD day tick ss i).2.2.1.2.2.2.2)))] := hD
      have hS : va_S A s.heap H locs := hS
      refine W.eq (g2 := F0 m 17 ls []) rfl ?_
      refine lv_iload_n hx hb d_D_skip_17 rfl (lv_at hl 0 rfl) ?_
      refine lv_iload_n hx hb d_D_skip_18 rfl (lv_at hl 2 rfl) ?_
      refine lv_icmp_ge (tgt := 37) hx hb d_D_skip_19 (by decide) (fun c_3 => ?_) (fun c_3 => ?_)
      · have ei : i = N := Nat.le_antisymm hi (dd_le_nI (by omega) (by omega) c_3)
        rw [ei] at hP hD hl
        have hP : va_P D dd_cl [((h 0), .inr (0, [.ref (h 1), .ref (h 2), .ref (h 8)])), ((h 1), .inr (1, [.ref (h 11), .int ((dd_itD day tick ss N).1), .int ((dd_itD day tick ss N).2.1)])), ((h 2), .inr (2, [.ref (h 3), .ref (h 4), .ref (h 5), .ref (h 6), .ref (h 7)])), ((h 3), .inl (k 0, 200, .inr (.inl ((dd_itD day tick ss N).2.2.1.1)))), ((h 4), .inl (k 0, 200, .inr (.inl ((dd_itD day tick ss N).2.2.1.2.1)))), ((h 5), .inl (k 0, 200, .inr (.inl ((dd_itD day tick ss N).2.2.1.2.2.1)))), ((h 6), .inl (k 0, 200, .inr (.inl ((dd_itD day tick ss N).2.2.1.2.2.2.1)))), ((h 7), .inl (k 1, 200, .inl ((dd_itD day tick ss N).2.2.1.2.2.2.2)))] H := hP
        have hD : va_D A [((h 0), .inr (0, [.ref (h 1), .ref (h 2), .ref (h 8)])), ((h 1), .inr (1, [.ref (h 11), .int ((dd_itD day tick ss N).1), .int ((dd_itD day tick ss N).2.1)])), ((h 2), .inr (2, [.ref (h 3), .ref (h 4), .ref (h 5), .ref (h 6), .ref (h 7)])), ((h 3), .inl (k 0, 200, .inr (.inl ((dd_itD day tick ss N).2.2.1.1)))), ((h 4), .inl (k 0, 200, .inr (.inl ((dd_itD day tick ss N).2.2.1.2.1)))), ((h 5), .inl (k 0, 200, .inr (.inl ((dd_itD day tick ss N).2.2.1.2.2.1)))), ((h 6), .inl (k 0, 200, .inr (.inl ((dd_itD day tick ss N).2.2.1.2.2.2.1)))), ((h 7), .inl (k 1, 200, .inl ((dd_itD day tick ss N).2.2.1.2.2.2.2)))] := hD
        refine lv_iload_n hx hb d_D_skip_37 rfl (lv_at hl 1 rfl) ?_
        exact W.iret (v := (dd_itD day tick ss N).2.2.2) hx hb hr (fun t ht hW => ⟨⟨(dd_itD day tick ss N).2.2.2, ((dd_itD day tick ss N).1, (dd_itD day tick ss N).2.1, (dd_itD day tick ss N).2.2.1), rfl, ⟨rfl, rfl⟩, by rw [ht]; exact hP, hD⟩, hS.F ht⟩) hS.2.2 d_D_skip_38
      · have hlt : i < N := dd_nle_nI (by omega) c_3
        refine lv_iload_n hx hb d_D_skip_22 rfl (lv_at hl 1 rfl) ?_
        refine lv_aload_n hx hb d_D_skip_23 rfl (lv_at hl 3 rfl) ?_
        have hPc := hP.sub (ws' := [((h 0), .inr (0, [.ref (h 1), .ref (h 2), .ref (h 8)])), ((h 1), .inr (1, [.ref (h 11), .int ((dd_itD day tick ss i).1), .int ((dd_itD day tick ss i).2.1)])), ((h 2), .inr (2, [.ref (h 3), .ref (h 4), .ref (h 5), .ref (h 6), .ref (h 7)])), ((h 3), .inl (k 0, 200, .inr (.inl ((dd_itD day tick ss i).2.2.1.1)))), ((h 4), .inl (k 0, 200, .inr (.inl ((dd_itD day tick ss i).2.2.1.2.1)))), ((h 5), .inl (k 0, 200, .inr (.inl ((dd_itD day tick ss i).2.2.1.2.2.1)))), ((h 6), .inl (k 0, 200, .inr (.inl ((dd_itD day tick ss i).2.2.1.2.2.2.1)))), ((h 7), .inl (k 1, 200, .inl ((dd_itD day tick ss i).2.2.1.2.2.2.2)))]) [0, 1, 2, 3, 4, 5, 6, 7] rfl
        have hDc := hD.sub (ws' := [((h 0), .inr (0, [.ref (h 1), .ref (h 2), .ref (h 8)])), ((h 1), .inr (1, [.ref (h 11), .int ((dd_itD day tick ss i).1), .int ((dd_itD day tick ss i).2.1)])), ((h 2), .inr (2, [.ref (h 3), .ref (h 4), .ref (h 5), .ref (h 6), .ref (h 7)])), ((h 3), .inl (k 0, 200, .inr (.inl ((dd_itD day tick ss i).2.2.1.1)))), ((h 4), .inl (k 0, 200, .inr (.inl ((dd_itD day tick ss i).2.2.1.2.1)))), ((h 5), .inl (k 0, 200, .inr (.inl ((dd_itD day tick ss i).2.2.1.2.2.1)))), ((h 6), .inl (k 0, 200, .inr (.inl ((dd_itD day tick ss i).2.2.1.2.2.2.1)))), ((h 7), .inl (k 1, 200, .inl ((dd_itD day tick ss i).2.2.1.2.2.2.2)))]) [0, 1, 2, 3, 4, 5, 6, 7] (by decide) rfl
        refine dd_mi (wc := [((h 0), .inr (0, [.ref (h 1), .ref (h 2), .ref (h 8)])), ((h 1), .inr (1, [.ref (h 11), .int ((dd_itD day tick ss i).1), .int ((dd_itD day tick ss i).2.1)])), ((h 2), .inr (2, [.ref (h 3), .ref (h 4), .ref (h 5), .ref (h 6), .ref (h 7)])), ((h 3), .inl (k 0, 200, .inr (.inl ((dd_itD day tick ss i).2.2.1.1)))), ((h 4), .inl (k 0, 200, .inr (.inl ((dd_itD day tick ss i).2.2.1.2.1)))), ((h 5), .inl (k 0, 200, .inr (.inl ((dd_itD day tick ss i).2.2.1.2.2.1)))), ((h 6), .inl (k 0, 200, .inr (.inl ((dd_itD day tick ss i).2.2.1.2.2.2.1)))), ((h 7), .inl (k 1, 200, .inl ((dd_itD day tick ss i).2.2.1.2.2.2.2)))]) (wr := []) (va_runV (As := []) (rest := [.int ((dd_itD day tick ss i).2.2.2)]) ⟨hx, hb, hml, hown, htb⟩ (c_D_pass l D k h H.size ((dd_itD day tick ss i).1) ((dd_itD day tick ss i).2.1) ((dd_itD day tick ss i).2.2.1)) (cwV 0 htb (dd_gV tb_120 tb_101 tb_102 tb_1 tb_103) rfl rfl rfl hd_D_pass ⟨Nat.le_of_ble_eq_true rfl, Nat.le_of_ble_eq_true rfl⟩) ⟨dd_PM.bl, va_recv hK hPc (ci := 0) (q0 := 0) rfl rfl, dd_PM.of hPc hDc hK hN⟩ rfl rfl hl.1 rfl (lv_room (Nat.le_of_ble_eq_true rfl)) d_D_skip_24 ⟨Nat.le_of_ble_eq_true rfl, Nat.le_of_ble_eq_true rfl⟩) hP hD hS hA [0, 1, 2, 3, 4, 5, 6, 7] [] rfl rfl (by decide) (by decide) (fun r_4 u H locs hw hP hD hS => ?_)
        obtain ⟨rfl, rfl⟩ := hw
        have hP : va_P D dd_cl [((h 0), .inr (0, [.ref (h 1), .ref (h 2), .ref (h 8)])), ((h 1), .inr (1, [.ref (h 11), .int (dd_nxd ((dd_itD day tick ss i).2.1) ((dd_itD day tick ss i).1)), .int (dd_nxt ((dd_itD day tick ss i).2.1))])), ((h 2), .inr (2, [.ref (h 3), .ref (h 4), .ref (h 5), .ref (h 6), .ref (h 7)])), ((h 3), .inl (k 0, 200, .inr (.inl ((dd_psS ((dd_itD day tick ss i).2.1) ((dd_itD day tick ss i).2.2.1)).1)))), ((h 4), .inl (k 0, 200, .inr (.inl ((dd_psS ((dd_itD day tick ss i).2.1) ((dd_itD day tick ss i).2.2.1)).2.1)))), ((h 5), .inl (k 0, 200, .inr (.inl ((dd_psS ((dd_itD day tick ss i).2.1) ((dd_itD day tick ss i).2.2.1)).2.2.1)))), ((h 6), .inl (k 0, 200, .inr (.inl ((dd_psS ((dd_itD day tick ss i).2.1) ((dd_itD day tick ss i).2.2.1)).2.2.2.1)))), ((h 7), .inl (k 1, 200, .inl ((dd_psS ((dd_itD day tick ss i).2.1) ((dd_itD day tick ss i).2.2.1)).2.2.2.2)))] H := hP.sub [0, 1, 2, 3, 4, 5, 6, 7] rfl
        have hD : va_D A [((h 0), .inr (0, [.ref (h 1), .ref (h 2), .ref (h 8)])), ((h 1), .inr (1, [.ref (h 11), .int (dd_nxd ((dd_itD day tick ss i).2.1) ((dd_itD day tick ss i).1)), .int (dd_nxt ((dd_itD day tick ss i).2.1))])), ((h 2), .inr (2, [.ref (h 3), .ref (h 4), .ref (h 5), .ref (h 6), .ref (h 7)])), ((h 3), .inl (k 0, 200, .inr (.inl ((dd_psS ((dd_itD day tick ss i).2.1) ((dd_itD day tick ss i).2.2.1)).1)))), ((h 4), .inl (k 0, 200, .inr (.inl ((dd_psS ((dd_itD day tick ss i).2.1) ((dd_itD day tick ss i).2.2.1)).2.1)))), ((h 5), .inl (k 0, 200, .inr (.inl ((dd_psS ((dd_itD day tick ss i).2.1) ((dd_itD day tick ss i).2.2.1)).2.2.1)))), ((h 6), .inl (k 0, 200, .inr (.inl ((dd_psS ((dd_itD day tick ss i).2.1) ((dd_itD day tick ss i).2.2.1)).2.2.2.1)))), ((h 7), .inl (k 1, 200, .inl ((dd_psS ((dd_itD day tick ss i).2.1) ((dd_itD day tick ss i).2.2.1)).2.2.2.2)))] := hD.sub [0, 1, 2, 3, 4, 5, 6, 7] (by decide) rfl
        refine lv_iconst (v := 1) hx hb d_D_skip_27 (by decide) ?_
        refine lv_iand hx hb d_D_skip_28 ?_
        refine lv_iadd hx hb d_D_skip_29 ?_
        refine lv_istore_n (lv' := [(2, .int ((dd_itD day tick ss i).2.2.2 + ((dd_pv (dd_nxt ((dd_itD day tick ss i).2.1))) &&& 1))), (3, .int (nI i)), (1, .int (nI N)), (0, .ref (h 0))]) hx hb d_D_skip_30 rfl hl (by decide) rfl (fun ls hl => ?_)
        refine lv_iinc (v := (nI (i + 1))) (lv' := [(3, .int (nI (i + 1))), (2, .int ((dd_itD day tick ss i).2.2.2 + ((dd_pv (dd_nxt ((dd_itD day tick ss i).2.1))) &&& 1))), (1, .int (nI N)), (0, .ref (h 0))]) hx hb d_D_skip_31 hl (k := 1) rfl (dd_inc i) (by decide) rfl (fun ls hl => ?_)
        refine lv_goto (tgt := 17) hx hb d_D_skip_34 (by decide) ?_
        exact ih17 (ls, (i + 1)) _ _ ⟨lv_sub hl [0, 1, 2, 3] rfl, hlt, hP, hD, hS⟩ (by dsimp only; omega)
    · exact absurd (nI_le (a := N) (b := 100000) hN2 (by decide)) c_2
set_option maxHeartbeats 4000000 in
set_option maxRecDepth 100000 in
theorem c_D_may (l : Launch) (D : va_G) (k : Nat → ClassId) (ad : Nat → Nat) (h : Nat → Nat) (day tick : Int32) (h0 : 0 ≤ tick) (kind prio money : Int32) : Met l y_D_may w_D_may ({ frames := 2, cells := 0, slots := 0, locals := 45 }) (dd_PE D k ad (dd_wE k ad h day tick) [.ref (h 0), .int kind, .int prio, .int money]) (vp_Si (fun r => r = dd_mayD (dd_phN tick) kind prio money)) 0 0 (fun _ => False) := by
  refine Met.ofW (cc := b_D_may) (maxL := 4) (ret := (some FieldType.boolean)) (by decide) rfl ?_
  intro p e s m args below meth c s₁ B hml hv
  obtain ⟨rfl, hP, hK, hN, hE⟩ := hv
  have hx := B.exec
  have hb := B.bytes
  have hr := B.returns
  have htb := dd_tb (atoms_spec (ws := w_D_may) B.pre)
  have hown : s.vm.findClass "DayDesk" = some m.cls := findClass_of_methodNamed B.named
  have hlocks := B.notSynchronized
  have hS : va_S (fun _ => False) s.heap s.heap [] := va_S.rf
  have hP : va_P D dd_cl [((h 0), .inr (0, [.ref (h 1), .ref (h 2), .ref (h 8)])), ((h 1), .inr (1, [.ref (h 11), .int day, .int tick])), ((h 11), .inl (k 3, 5, .inr (.inr (.inr (.inr (fun i => some (ad i)))))))] s.heap := hP
  have hl := lv_entry ([.ref (h 0), .int kind, .int prio, .int money]) (n := 4) (Nat.le_of_ble_eq_true rfl)
  rw [lg_entry_eq]
  generalize (lg_sl ([.ref (h 0), .int kind, .int prio, .int money]) ++ List.replicate (4 - (lg_sl ([.ref (h 0), .int kind, .int prio, .int money])).length) Slot.unset).toArray = ls at hl ⊢
  have hl : lv_has ls 4 [(0, .ref (h 0)), (1, .int kind), (2, .int prio), (3, .int money)] := hl
  refine lv_aload_n hx hb d_D_may_0 rfl (lv_at hl 0 rfl) ?_
  refine va_get (D := D) (ci := 0) (v := .ref (h 1)) (C := R_D) (T := F_D) (N := 3) hx hb htb i_D hown hK hP 0 rfl rfl 0 (by decide) (htb _ tb_90) (fun _ h9 => h9) rfl d_D_may_1 ?_
  refine lv_iload_n hx hb d_D_may_4 rfl (lv_at hl 1 rfl) ?_
  refine lv_iload_n hx hb d_D_may_5 rfl (lv_at hl 2 rfl) ?_
  refine lv_iload_n hx hb d_D_may_6 rfl (lv_at hl 3 rfl) ?_
  have hPc := hP.sub (ws' := [((h 1), .inr (1, [.ref (h 11), .int day, .int tick])), ((h 11), .inl (k 3, 5, .inr (.inr (.inr (.inr (fun i => some (ad i)))))))]) [1, 2] rfl
  refine vp_callSi (va_Run.run (va_runV (As := [.int kind, .int prio, .int money]) (rest := []) ⟨hx, hb, hml, hown, htb⟩ (c_C_may l D k ad h day tick h0 kind prio money) (cwV 3 htb (dd_gV tb_125 tb_126 tb_127 tb_2 tb_128) rfl rfl rfl hd_C_may ⟨Nat.le_of_ble_eq_true rfl, Nat.le_of_ble_eq_true rfl⟩) ⟨dd_PE.bl, va_recv hK hPc (ci := 1) (q0 := 0) rfl rfl, dd_PE.of hPc hK hN hE hS⟩ rfl rfl hl.1 rfl (lv_room (Nat.le_of_ble_eq_true rfl)) d_D_may_7 ⟨Nat.le_of_ble_eq_true rfl, Nat.le_of_ble_eq_true rfl⟩)) (fun r_1 er_1 => ?_)
  subst er_1
  exact W.zret (v := (dd_mayD (dd_phN tick) kind prio money)) hx hb hr (dd_nb (dd_mayD01 _ _ _ _)) (fun t ht hW => ⟨(dd_mayD (dd_phN tick) kind prio money), rfl, rfl, ht⟩) (fun q h => by cases h) d_D_may_10
set_option maxHeartbeats 4000000 in
set_option maxRecDepth 100000 in
theorem c_D_look (l : Launch) (D : va_G) (k : Nat → ClassId) (ad : Nat → Nat) (h : Nat → Nat) (day tick : Int32) (h0 : 0 ≤ tick) (n : Nat) (hT : dd_TR tick n) (what : Int32) : Met l y_D_look w_D_look ({ frames := 2, cells := 0, slots := 0, locals := 42 }) (dd_PE D k ad (dd_wE k ad h day tick) [.ref (h 0), .int what]) (vp_Si (fun r => r = dd_lkD day tick n what)) 0 0 (fun _ => False) := by
  refine Met.ofW (cc := b_D_look) (maxL := 2) (ret := (some FieldType.int)) (by decide) rfl ?_
  intro p e s m args below meth c s₁ B hml hv
  obtain ⟨rfl, hP, hK, hN, hE⟩ := hv
  have hx := B.exec
  have hb := B.bytes
  have hr := B.returns
  have htb := dd_tb (atoms_spec (ws := w_D_look) B.pre)
  have hown : s.vm.findClass "DayDesk" = some m.cls := findClass_of_methodNamed B.named
  have hlocks := B.notSynchronized
  have hS : va_S (fun _ => False) s.heap s.heap [] := va_S.rf
  have hP : va_P D dd_cl [((h 0), .inr (0, [.ref (h 1), .ref (h 2), .ref (h 8)])), ((h 1), .inr (1, [.ref (h 11), .int day, .int tick])), ((h 11), .inl (k 3, 5, .inr (.inr (.inr (.inr (fun i => some (ad i)))))))] s.heap := hP
  have hl := lv_entry ([.ref (h 0), .int what]) (n := 2) (Nat.le_of_ble_eq_true rfl)
  rw [lg_entry_eq]
  generalize (lg_sl ([.ref (h 0), .int what]) ++ List.replicate (2 - (lg_sl ([.ref (h 0), .int what])).length) Slot.unset).toArray = ls at hl ⊢
  have hl : lv_has ls 2 [(0, .ref (h 0)), (1, .int what)] := hl
  refine lv_iload_n hx hb d_D_look_0 rfl (lv_at hl 1 rfl) ?_
  by_cases s_0 : what = 0
  · subst s_0
    refine lv_tableIn (tgt := 36) hx hb d_D_look_1 (by decide) (by decide) rfl (by decide) ?_
    refine lv_aload_n hx hb d_D_look_36 rfl (lv_at hl 0 rfl) ?_
    refine va_get (D := D) (ci := 0) (v := .ref (h 1)) (C := R_D) (T := F_D) (N := 3) hx hb htb i_D hown hK hP 0 rfl rfl 0 (by decide) (htb _ tb_90) (fun _ h9 => h9) rfl d_D_look_37 ?_
    refine va_getN (D := D) (ci := 1) (v := .int day) (C := R_C) (T := F_C) (N := 3) hx hb htb i_C hown hK hP 1 rfl rfl 1 (by decide) (va_Nw.use rfl hN.1) (fun _ h9 => h9) rfl d_D_look_40 ?_
    exact W.iret (v := day) hx hb hr (fun t ht hW => ⟨day, rfl, by unfold dd_lkD; rw [if_pos rfl], ht⟩) (fun q h => by cases h) d_D_look_43
  by_cases s_1 : what = 1
  · subst s_1
    refine lv_tableIn (tgt := 44) hx hb d_D_look_1 (by decide) (by decide) rfl (by decide) ?_
    refine lv_aload_n hx hb d_D_look_44 rfl (lv_at hl 0 rfl) ?_
    refine va_get (D := D) (ci := 0) (v := .ref (h 1)) (C := R_D) (T := F_D) (N := 3) hx hb htb i_D hown hK hP 0 rfl rfl 0 (by decide) (htb _ tb_90) (fun _ h9 => h9) rfl d_D_look_45 ?_
    refine va_getN (D := D) (ci := 1) (v := .int tick) (C := R_C) (T := F_C) (N := 3) hx hb htb i_C hown hK hP 1 rfl rfl 2 (by decide) (va_Nw.use rfl hN.2.1) (fun _ h9 => h9) rfl d_D_look_48 ?_
    exact W.iret (v := tick) hx hb hr (fun t ht hW => ⟨tick, rfl, by unfold dd_lkD; rw [if_neg (by decide), if_pos rfl], ht⟩) (fun q h => by cases h) d_D_look_51
  by_cases s_2 : what = 2
  · subst s_2
    refine lv_tableIn (tgt := 52) hx hb d_D_look_1 (by decide) (by decide) rfl (by decide) ?_
    refine lv_aload_n hx hb d_D_look_52 rfl (lv_at hl 0 rfl) ?_
    refine va_get (D := D) (ci := 0) (v := .ref (h 1)) (C := R_D) (T := F_D) (N := 3) hx hb htb i_D hown hK hP 0 rfl rfl 0 (by decide) (htb _ tb_90) (fun _ h9 => h9) rfl d_D_look_53 ?_
    have hPc := hP.sub (ws' := [((h 1), .inr (1, [.ref (h 11), .int day, .int tick])), ((h 11), .inl (k 3, 5, .inr (.inr (.inr (.inr (fun i => some (ad i)))))))]) [1, 2] rfl
    refine va_csr (va_Run.run (va_runV (As := []) (rest := []) ⟨hx, hb, hml, hown, htb⟩ (c_C_phase l D k ad h day tick h0) (cwV 0 htb (dd_gV tb_145 tb_130 tb_131 tb_2 tb_132) rfl rfl rfl hd_C_phase ⟨Nat.le_of_ble_eq_true rfl, Nat.le_of_ble_eq_true rfl⟩) ⟨dd_PE.bl, va_recv hK hPc (ci := 1) (q0 := 0) rfl rfl, dd_PE.of hPc hK hN hE hS⟩ rfl rfl hl.1 rfl (lv_room (Nat.le_of_ble_eq_true rfl)) d_D_look_56 ⟨Nat.le_of_ble_eq_true rfl, Nat.le_of_ble_eq_true rfl⟩)) (fun r_1 er_1 => ?_)
    subst er_1
    refine dd_getEN (i := (dd_phN tick)) (q := ("DayDesk$Phase", "number", "I", [0, 1, 2, 3, 4])) (v := (nI (dd_phN tick))) hx hb hE (dd_phN_lt tick) hS hown (by decide) (va_Nw.use rfl hN.2.2.2.2.2.1) (fun _ h9 => h9) (dd_num _ (dd_phN_lt tick)) d_D_look_59 ?_
    exact W.iret (v := (nI (dd_phN tick))) hx hb hr (fun t ht hW => ⟨(nI (dd_phN tick)), rfl, by unfold dd_lkD; rw [if_neg (by decide), if_neg (by decide), if_pos rfl], ht⟩) (fun q h => by cases h) d_D_look_62
  by_cases s_3 : what = 3
  · subst s_3
    refine lv_tableIn (tgt := 63) hx hb d_D_look_1 (by decide) (by decide) rfl (by decide) ?_
    refine lv_aload_n hx hb d_D_look_63 rfl (lv_at hl 0 rfl) ?_
    refine va_get (D := D) (ci := 0) (v := .ref (h 1)) (C := R_D) (T := F_D) (N := 3) hx hb htb i_D hown hK hP 0 rfl rfl 0 (by decide) (htb _ tb_90) (fun _ h9 => h9) rfl d_D_look_64 ?_
    have hPc := hP.sub (ws' := [((h 1), .inr (1, [.ref (h 11), .int day, .int tick]))]) [1] rfl
    refine vp_callSi (va_Run.run (va_runV (As := []) (rest := []) ⟨hx, hb, hml, hown, htb⟩ (c_C_tillResolved l D k h day tick n hT) (cwV 0 htb (dd_gV tb_146 tb_147 tb_148 tb_2 tb_149) rfl rfl rfl hd_C_tillResolved ⟨Nat.le_of_ble_eq_true rfl, Nat.le_of_ble_eq_true rfl⟩) ⟨dd_PR.bl, va_recv hK hPc (ci := 1) (q0 := 0) rfl rfl, dd_PR.of hPc hK hN⟩ rfl rfl hl.1 rfl (lv_room (Nat.le_of_ble_eq_true rfl)) d_D_look_67 ⟨Nat.le_of_ble_eq_true rfl, Nat.le_of_ble_eq_true rfl⟩)) (fun r_2 er_2 => ?_)
    subst er_2
    exact W.iret (v := (nI n)) hx hb hr (fun t ht hW => ⟨(nI n), rfl, by unfold dd_lkD; rw [if_neg (by decide), if_neg (by decide), if_neg (by decide), if_pos rfl], ht⟩) (fun q h => by cases h) d_D_look_70
  by_cases s_4 : what = 4
  · subst s_4
    refine lv_tableIn (tgt := 71) hx hb d_D_look_1 (by decide) (by decide) rfl (by decide) ?_
    refine lv_aload_n hx hb d_D_look_71 rfl (lv_at hl 0 rfl) ?_
    refine va_get (D := D) (ci := 0) (v := .ref (h 1)) (C := R_D) (T := F_D) (N := 3) hx hb htb i_D hown hK hP 0 rfl rfl 0 (by decide) (htb _ tb_90) (fun _ h9 => h9) rfl d_D_look_72 ?_
    have hPc := hP.sub (ws' := [((h 1), .inr (1, [.ref (h 11), .int day, .int tick])), ((h 11), .inl (k 3, 5, .inr (.inr (.inr (.inr (fun i => some (ad i)))))))]) [1, 2] rfl
    refine vp_callSi (va_Run.run (va_runV (As := []) (rest := []) ⟨hx, hb, hml, hown, htb⟩ (c_C_tillPhase l D k ad h day tick h0) (cwV 0 htb (dd_gV tb_150 tb_151 tb_152 tb_2 tb_153) rfl rfl rfl hd_C_tillPhase ⟨Nat.le_of_ble_eq_true rfl, Nat.le_of_ble_eq_true rfl⟩) ⟨dd_PE.bl, va_recv hK hPc (ci := 1) (q0 := 0) rfl rfl, dd_PE.of hPc hK hN hE hS⟩ rfl rfl hl.1 rfl (lv_room (Nat.le_of_ble_eq_true rfl)) d_D_look_75 ⟨Nat.le_of_ble_eq_true rfl, Nat.le_of_ble_eq_true rfl⟩)) (fun r_3 er_3 => ?_)
    subst er_3
    exact W.iret (v := (dd_tP tick)) hx hb hr (fun t ht hW => ⟨(dd_tP tick), rfl, by unfold dd_lkD; rw [if_neg (by decide), if_neg (by decide), if_neg (by decide), if_neg (by decide), if_pos rfl], ht⟩) (fun q h => by cases h) d_D_look_78
  refine lv_tableOut (tgt := 79) hx hb d_D_look_1 (dd_sw5 s_0 s_1 s_2 s_3 s_4) (by decide) ?_
  refine lv_iconst (v := (-1)) hx hb d_D_look_79 (by decide) ?_
  exact W.iret (v := (-1)) hx hb hr (fun t ht hW => ⟨(-1), rfl, by unfold dd_lkD; rw [if_neg s_0, if_neg s_1, if_neg s_2, if_neg s_3, if_neg s_4], ht⟩) (fun q h => by cases h) d_D_look_80
set_option maxHeartbeats 4000000 in
set_option maxRecDepth 100000 in
theorem c_D_row (l : Launch) (D : va_G) (k : Nat → ClassId) (h : Nat → Nat) (ss : dd_SS) (q what : Int32) : Met l y_D_row w_D_row ({ frames := 1, cells := 0, slots := 0, locals := 22 }) (dd_PR D k (dd_wDS k h ss) [.ref (h 0), .int q, .int what]) (vp_Sl (fun r => r = dd_rowD ss q what)) 0 0 (fun _ => False) := by
  refine Met.ofW (cc := b_D_row) (maxL := 3) (ret := (some FieldType.long)) (by decide) rfl ?_
  intro p e s m args below meth c s₁ B hml hv
  obtain ⟨rfl, hP, hK, hN⟩ := hv
  have hx := B.exec
  have hb := B.bytes
  have hr := B.returns
  have htb := dd_tb (atoms_spec (ws := w_D_row) B.pre)
  have hown : s.vm.findClass "DayDesk" = some m.cls := findClass_of_methodNamed B.named
  have hlocks := B.notSynchronized
  have hS : va_S (fun _ => False) s.heap s.heap [] := va_S.rf
  have hP : va_P D dd_cl [((h 0), .inr (0, [.ref (h 1), .ref (h 2), .ref (h 8)])), ((h 2), .inr (2, [.ref (h 3), .ref (h 4), .ref (h 5), .ref (h 6), .ref (h 7)])), ((h 3), .inl (k 0, 200, .inr (.inl ss.1))), ((h 4), .inl (k 0, 200, .inr (.inl ss.2.1))), ((h 5), .inl (k 0, 200, .inr (.inl ss.2.2.1))), ((h 6), .inl (k 0, 200, .inr (.inl ss.2.2.2.1))), ((h 7), .inl (k 1, 200, .inl ss.2.2.2.2))] s.heap := hP
  have hl := lv_entry ([.ref (h 0), .int q, .int what]) (n := 3) (Nat.le_of_ble_eq_true rfl)
  rw [lg_entry_eq]
  generalize (lg_sl ([.ref (h 0), .int q, .int what]) ++ List.replicate (3 - (lg_sl ([.ref (h 0), .int q, .int what])).length) Slot.unset).toArray = ls at hl ⊢
  have hl : lv_has ls 3 [(0, .ref (h 0)), (1, .int q), (2, .int what)] := hl
  refine lv_aload_n hx hb d_D_row_0 rfl (lv_at hl 0 rfl) ?_
  refine va_get (D := D) (ci := 0) (v := .ref (h 2)) (C := R_D) (T := F_D) (N := 3) hx hb htb i_D hown hK hP 0 rfl rfl 1 (by decide) (htb _ tb_91) (fun _ h9 => h9) rfl d_D_row_1 ?_
  refine lv_iload_n hx hb d_D_row_4 rfl (lv_at hl 1 rfl) ?_
  have hPc := hP.sub (ws' := [((h 2), .inr (2, [.ref (h 3), .ref (h 4), .ref (h 5), .ref (h 6), .ref (h 7)])), ((h 3), .inl (k 0, 200, .inr (.inl ss.1))), ((h 4), .inl (k 0, 200, .inr (.inl ss.2.1))), ((h 5), .inl (k 0, 200, .inr (.inl ss.2.2.1))), ((h 6), .inl (k 0, 200, .inr (.inl ss.2.2.2.1))), ((h 7), .inl (k 1, 200, .inl ss.2.2.2.2))]) [1, 2, 3, 4, 5, 6] rfl
  refine vp_callSi (va_Run.run (va_runV (As := [.int q]) (rest := []) ⟨hx, hb, hml, hown, htb⟩ (c_S_isPosition l D k h ss q) (cwV 1 htb (dd_gV tb_158 tb_159 tb_160 tb_5 tb_161) rfl rfl rfl hd_S_isPosition ⟨Nat.le_of_ble_eq_true rfl, Nat.le_of_ble_eq_true rfl⟩) ⟨dd_PR.bl, va_recv hK hPc (ci := 2) (q0 := 0) rfl rfl, dd_PR.of hPc hK hN⟩ rfl rfl hl.1 rfl (lv_room (Nat.le_of_ble_eq_true rfl)) d_D_row_5 ⟨Nat.le_of_ble_eq_true rfl, Nat.le_of_ble_eq_true rfl⟩)) (fun r_1 er_1 => ?_)
  subst er_1
  refine lv_if_eq (tgt := 23) hx hb d_D_row_8 (by decide) (fun c_2 => ?_) (fun c_2 => ?_)
  · refine lv_lconst (v := 0) hx hb d_D_row_23 (by decide) ?_
    exact W.lret (v := 0) hx hb hr (fun t ht hW => ⟨0, rfl, by unfold dd_rowD; rw [if_pos c_2], ht⟩) (fun q h => by cases h) d_D_row_24
  · obtain ⟨j, hj, rfl⟩ := dd_isP_of c_2
    refine lv_aload_n hx hb d_D_row_11 rfl (lv_at hl 0 rfl) ?_
    refine va_get (D := D) (ci := 0) (v := .ref (h 2)) (C := R_D) (T := F_D) (N := 3) hx hb htb i_D hown hK hP 0 rfl rfl 1 (by decide) (htb _ tb_91) (fun _ h9 => h9) rfl d_D_row_12 ?_
    refine lv_iload_n hx hb d_D_row_15 rfl (lv_at hl 1 rfl) ?_
    refine lv_iload_n hx hb d_D_row_16 rfl (lv_at hl 2 rfl) ?_
    have hPc := hP.sub (ws' := [((h 2), .inr (2, [.ref (h 3), .ref (h 4), .ref (h 5), .ref (h 6), .ref (h 7)])), ((h 3), .inl (k 0, 200, .inr (.inl ss.1))), ((h 4), .inl (k 0, 200, .inr (.inl ss.2.1))), ((h 5), .inl (k 0, 200, .inr (.inl ss.2.2.1))), ((h 6), .inl (k 0, 200, .inr (.inl ss.2.2.2.1))), ((h 7), .inl (k 1, 200, .inl ss.2.2.2.2))]) [1, 2, 3, 4, 5, 6] rfl
    refine vp_callSl (va_Run.run (va_runV (As := [.int (nI j), .int what]) (rest := []) ⟨hx, hb, hml, hown, htb⟩ (c_S_of l D k h ss j hj what) (cwV 2 htb (dd_gV tb_179 tb_180 tb_181 tb_5 tb_182) rfl rfl rfl hd_S_of ⟨Nat.le_of_ble_eq_true rfl, Nat.le_of_ble_eq_true rfl⟩) ⟨dd_PR.bl, va_recv hK hPc (ci := 2) (q0 := 0) rfl rfl, dd_PR.of hPc hK hN⟩ rfl rfl hl.1 rfl (lv_room (Nat.le_of_ble_eq_true rfl)) d_D_row_17 ⟨Nat.le_of_ble_eq_true rfl, Nat.le_of_ble_eq_true rfl⟩)) (fun r_3 er_3 => ?_)
    subst er_3
    refine lv_goto (tgt := 24) hx hb d_D_row_20 (by decide) ?_
    exact W.lret (v := (dd_ofS ss j what)) hx hb hr (fun t ht hW => ⟨(dd_ofS ss j what), rfl, by unfold dd_rowD; rw [if_neg c_2, nI_clamp (by omega)], ht⟩) (fun q h => by cases h) d_D_row_24
set_option maxHeartbeats 4000000 in
set_option maxRecDepth 100000 in
theorem c_D_isTold (l : Launch) (D : va_G) (k : Nat → ClassId) (h : Nat → Nat) (ss : dd_SS) (q : Int32) : Met l y_D_isTold w_D_isTold ({ frames := 1, cells := 0, slots := 0, locals := 21 }) (dd_PR D k (dd_wDS k h ss) [.ref (h 0), .int q]) (vp_Si (fun r => r = dd_tdD ss q)) 0 0 (fun _ => False) := by
  refine Met.ofW (cc := b_D_isTold) (maxL := 2) (ret := (some FieldType.boolean)) (by decide) rfl ?_
  intro p e s m args below meth c s₁ B hml hv
  obtain ⟨rfl, hP, hK, hN⟩ := hv
  have hx := B.exec
  have hb := B.bytes
  have hr := B.returns
  have htb := dd_tb (atoms_spec (ws := w_D_isTold) B.pre)
  have hown : s.vm.findClass "DayDesk" = some m.cls := findClass_of_methodNamed B.named
  have hlocks := B.notSynchronized
  have hS : va_S (fun _ => False) s.heap s.heap [] := va_S.rf
  have hP : va_P D dd_cl [((h 0), .inr (0, [.ref (h 1), .ref (h 2), .ref (h 8)])), ((h 2), .inr (2, [.ref (h 3), .ref (h 4), .ref (h 5), .ref (h 6), .ref (h 7)])), ((h 3), .inl (k 0, 200, .inr (.inl ss.1))), ((h 4), .inl (k 0, 200, .inr (.inl ss.2.1))), ((h 5), .inl (k 0, 200, .inr (.inl ss.2.2.1))), ((h 6), .inl (k 0, 200, .inr (.inl ss.2.2.2.1))), ((h 7), .inl (k 1, 200, .inl ss.2.2.2.2))] s.heap := hP
  have hl := lv_entry ([.ref (h 0), .int q]) (n := 2) (Nat.le_of_ble_eq_true rfl)
  rw [lg_entry_eq]
  generalize (lg_sl ([.ref (h 0), .int q]) ++ List.replicate (2 - (lg_sl ([.ref (h 0), .int q])).length) Slot.unset).toArray = ls at hl ⊢
  have hl : lv_has ls 2 [(0, .ref (h 0)), (1, .int q)] := hl
  refine lv_aload_n hx hb d_D_isTold_0 rfl (lv_at hl 0 rfl) ?_
  refine va_get (D := D) (ci := 0) (v := .ref (h 2)) (C := R_D) (T := F_D) (N := 3) hx hb htb i_D hown hK hP 0 rfl rfl 1 (by decide) (htb _ tb_91) (fun _ h9 => h9) rfl d_D_isTold_1 ?_
  refine lv_iload_n hx hb d_D_isTold_4 rfl (lv_at hl 1 rfl) ?_
  have hPc := hP.sub (ws' := [((h 2), .inr (2, [.ref (h 3), .ref (h 4), .ref (h 5), .ref (h 6), .ref (h 7)])), ((h 3), .inl (k 0, 200, .inr (.inl ss.1))), ((h 4), .inl (k 0, 200, .inr (.inl ss.2.1))), ((h 5), .inl (k 0, 200, .inr (.inl ss.2.2.1))), ((h 6), .inl (k 0, 200, .inr (.inl ss.2.2.2.1))), ((h 7), .inl (k 1, 200, .inl ss.2.2.2.2))]) [1, 2, 3, 4, 5, 6] rfl
  refine vp_callSi (va_Run.run (va_runV (As := [.int q]) (rest := []) ⟨hx, hb, hml, hown, htb⟩ (c_S_isPosition l D k h ss q) (cwV 1 htb (dd_gV tb_158 tb_159 tb_160 tb_5 tb_161) rfl rfl rfl hd_S_isPosition ⟨Nat.le_of_ble_eq_true rfl, Nat.le_of_ble_eq_true rfl⟩) ⟨dd_PR.bl, va_recv hK hPc (ci := 2) (q0 := 0) rfl rfl, dd_PR.of hPc hK hN⟩ rfl rfl hl.1 rfl (lv_room (Nat.le_of_ble_eq_true rfl)) d_D_isTold_5 ⟨Nat.le_of_ble_eq_true rfl, Nat.le_of_ble_eq_true rfl⟩)) (fun r_1 er_1 => ?_)
  subst er_1
  refine lv_if_eq (tgt := 26) hx hb d_D_isTold_8 (by decide) (fun c_2 => ?_) (fun c_2 => ?_)
  · refine lv_iconst (v := 0) hx hb d_D_isTold_26 (by decide) ?_
    exact W.zret (v := 0) hx hb hr (by decide) (fun t ht hW => ⟨0, rfl, by unfold dd_tdD; rw [if_pos c_2], ht⟩) (fun q h => by cases h) d_D_isTold_27
  · obtain ⟨j, hj, rfl⟩ := dd_isP_of c_2
    refine lv_aload_n hx hb d_D_isTold_11 rfl (lv_at hl 0 rfl) ?_
    refine va_get (D := D) (ci := 0) (v := .ref (h 2)) (C := R_D) (T := F_D) (N := 3) hx hb htb i_D hown hK hP 0 rfl rfl 1 (by decide) (htb _ tb_91) (fun _ h9 => h9) rfl d_D_isTold_12 ?_
    refine lv_iload_n hx hb d_D_isTold_15 rfl (lv_at hl 1 rfl) ?_
    have hPc := hP.sub (ws' := [((h 2), .inr (2, [.ref (h 3), .ref (h 4), .ref (h 5), .ref (h 6), .ref (h 7)])), ((h 3), .inl (k 0, 200, .inr (.inl ss.1))), ((h 4), .inl (k 0, 200, .inr (.inl ss.2.1))), ((h 5), .inl (k 0, 200, .inr (.inl ss.2.2.1))), ((h 6), .inl (k 0, 200, .inr (.inl ss.2.2.2.1))), ((h 7), .inl (k 1, 200, .inl ss.2.2.2.2))]) [1, 2, 3, 4, 5, 6] rfl
    refine vp_callSi (va_Run.run (va_runV (As := [.int (nI j)]) (rest := []) ⟨hx, hb, hml, hown, htb⟩ (c_S_isTold l D k h ss j hj) (cwV 1 htb (dd_gV tb_187 tb_188 tb_189 tb_5 tb_190) rfl rfl rfl hd_S_isTold ⟨Nat.le_of_ble_eq_true rfl, Nat.le_of_ble_eq_true rfl⟩) ⟨dd_PR.bl, va_recv hK hPc (ci := 2) (q0 := 0) rfl rfl, dd_PR.of hPc hK hN⟩ rfl rfl hl.1 rfl (lv_room (Nat.le_of_ble_eq_true rfl)) d_D_isTold_16 ⟨Nat.le_of_ble_eq_true rfl, Nat.le_of_ble_eq_true rfl⟩)) (fun r_3 er_3 => ?_)
    subst er_3
    refine lv_if_eq (tgt := 26) hx hb d_D_isTold_19 (by decide) (fun c_4 => ?_) (fun c_4 => ?_)
    · refine lv_iconst (v := 0) hx hb d_D_isTold_26 (by decide) ?_
      exact W.zret (v := 0) hx hb hr (by decide) (fun t ht hW => ⟨0, rfl, by unfold dd_tdD; rw [if_neg c_2, nI_clamp (by omega), if_pos c_4], ht⟩) (fun q h => by cases h) d_D_isTold_27
    · refine lv_iconst (v := 1) hx hb d_D_isTold_22 (by decide) ?_
      refine lv_goto (tgt := 27) hx hb d_D_isTold_23 (by decide) ?_
      exact W.zret (v := 1) hx hb hr (by decide) (fun t ht hW => ⟨1, rfl, by unfold dd_tdD; rw [if_neg c_2, nI_clamp (by omega), if_neg c_4], ht⟩) (fun q h => by cases h) d_D_isTold_27
set_option maxHeartbeats 4000000 in
set_option maxRecDepth 100000 in
theorem c_D_move (l : Launch) (D : va_G) (k : Nat → ClassId) (h : Nat → Nat) (sz : Nat) (ss : dd_SS) (q : Int32) (v : Int64) : Met l y_D_move w_D_move ({ frames := 2, cells := 0, slots := 0, locals := 46 }) (dd_PM D k sz (dd_wDS k h ss) [.ref (h 0), .int q, .long v]) (dd_Qi D (fun r (u : dd_SS) => (r = -1 ∧ dd_okD ss q v = 0 ∧ u = ss) ∨ (¬ dd_okD ss q v = 0 ∧ v = 0 ∧ r = 0 ∧ u = dd_mvS ss q.toNatClampNeg v) ∨ (¬ dd_okD ss q v = 0 ∧ ¬ v = 0 ∧ r = 1 ∧ u = dd_mvS ss q.toNatClampNeg v)) (fun u => dd_wDS k h u) (va_A (dd_wDS k h ss) sz)) 0 0 (va_A (dd_wDS k h ss) sz) := by
  refine Met.ofW (cc := b_D_move) (maxL := 4) (ret := (some FieldType.int)) (by decide) rfl ?_
  intro p e s m args below meth c s₁ B hml hv
  obtain ⟨rfl, hsz, hP, hD0, hK, hN⟩ := hv
  have hx := B.exec
  have hb := B.bytes
  have hr := B.returns
  have htb := dd_tb (atoms_spec (ws := w_D_move) B.pre)
  have hown : s.vm.findClass "DayDesk" = some m.cls := findClass_of_methodNamed B.named
  have hlocks := B.notSynchronized
  subst hsz
  have hD := hD0.self (sz := s.heap.size)
  generalize hAe : va_A (dd_wDS k h ss) s.heap.size = A at hD ⊢
  have hA : ∀ q : Nat, s.heap.size ≤ q → A q := fun q h => by rw [← hAe]; exact Or.inr h
  have hS : va_S A s.heap s.heap [] := va_S.rf
  have hP : va_P D dd_cl [((h 0), .inr (0, [.ref (h 1), .ref (h 2), .ref (h 8)])), ((h 2), .inr (2, [.ref (h 3), .ref (h 4), .ref (h 5), .ref (h 6), .ref (h 7)])), ((h 3), .inl (k 0, 200, .inr (.inl ss.1))), ((h 4), .inl (k 0, 200, .inr (.inl ss.2.1))), ((h 5), .inl (k 0, 200, .inr (.inl ss.2.2.1))), ((h 6), .inl (k 0, 200, .inr (.inl ss.2.2.2.1))), ((h 7), .inl (k 1, 200, .inl ss.2.2.2.2))] s.heap := hP
  have hD : va_D A [((h 0), .inr (0, [.ref (h 1), .ref (h 2), .ref (h 8)])), ((h 2), .inr (2, [.ref (h 3), .ref (h 4), .ref (h 5), .ref (h 6), .ref (h 7)])), ((h 3), .inl (k 0, 200, .inr (.inl ss.1))), ((h 4), .inl (k 0, 200, .inr (.inl ss.2.1))), ((h 5), .inl (k 0, 200, .inr (.inl ss.2.2.1))), ((h 6), .inl (k 0, 200, .inr (.inl ss.2.2.2.1))), ((h 7), .inl (k 1, 200, .inl ss.2.2.2.2))] := hD
  have hl := lv_entry ([.ref (h 0), .int q, .long v]) (n := 4) (Nat.le_of_ble_eq_true rfl)
  rw [lg_entry_eq]
  generalize (lg_sl ([.ref (h 0), .int q, .long v]) ++ List.replicate (4 - (lg_sl ([.ref (h 0), .int q, .long v])).length) Slot.unset).toArray = ls at hl ⊢
  have hl : lv_has ls 4 [(0, .ref (h 0)), (1, .int q), (2, .long v)] := hl
  refine lv_aload_n hx hb d_D_move_0 rfl (lv_at hl 0 rfl) ?_
  refine va_get (D := D) (ci := 0) (v := .ref (h 2)) (C := R_D) (T := F_D) (N := 3) hx hb htb i_D hown hK hP 0 rfl rfl 1 (by decide) (htb _ tb_91) (fun _ h9 => h9) rfl d_D_move_1 ?_
  refine lv_iload_n hx hb d_D_move_4 rfl (lv_at hl 1 rfl) ?_
  have hPc := hP.sub (ws' := [((h 2), .inr (2, [.ref (h 3), .ref (h 4), .ref (h 5), .ref (h 6), .ref (h 7)])), ((h 3), .inl (k 0, 200, .inr (.inl ss.1))), ((h 4), .inl (k 0, 200, .inr (.inl ss.2.1))), ((h 5), .inl (k 0, 200, .inr (.inl ss.2.2.1))), ((h 6), .inl (k 0, 200, .inr (.inl ss.2.2.2.1))), ((h 7), .inl (k 1, 200, .inl ss.2.2.2.2))]) [1, 2, 3, 4, 5, 6] rfl
  refine vp_callSi (va_Run.run (va_runV (As := [.int q]) (rest := []) ⟨hx, hb, hml, hown, htb⟩ (c_S_isPosition l D k h ss q) (cwV 1 htb (dd_gV tb_158 tb_159 tb_160 tb_5 tb_161) rfl rfl rfl hd_S_isPosition ⟨Nat.le_of_ble_eq_true rfl, Nat.le_of_ble_eq_true rfl⟩) ⟨dd_PR.bl, va_recv hK hPc (ci := 2) (q0 := 0) rfl rfl, dd_PR.of hPc hK hN⟩ rfl rfl hl.1 rfl (lv_room (Nat.le_of_ble_eq_true rfl)) d_D_move_5 ⟨Nat.le_of_ble_eq_true rfl, Nat.le_of_ble_eq_true rfl⟩)) (fun r_1 er_1 => ?_)
  subst er_1
  refine lv_if_eq (tgt := 23) hx hb d_D_move_8 (by decide) (fun c_2 => ?_) (fun c_2 => ?_)
  · refine lv_iconst (v := (-1)) hx hb d_D_move_23 (by decide) ?_
    exact W.iret (v := (-1)) hx hb hr (fun t ht hW => ⟨⟨(-1), ss, rfl, Or.inl ⟨rfl, by unfold dd_okD; rw [if_pos c_2], rfl⟩, by rw [ht]; exact hP, hD⟩, hS.F ht⟩) hS.2.2 d_D_move_24
  · obtain ⟨j, hj, rfl⟩ := dd_isP_of c_2
    refine lv_aload_n hx hb d_D_move_11 rfl (lv_at hl 0 rfl) ?_
    refine va_get (D := D) (ci := 0) (v := .ref (h 2)) (C := R_D) (T := F_D) (N := 3) hx hb htb i_D hown hK hP 0 rfl rfl 1 (by decide) (htb _ tb_91) (fun _ h9 => h9) rfl d_D_move_12 ?_
    refine lv_iload_n hx hb d_D_move_15 rfl (lv_at hl 1 rfl) ?_
    refine lv_lload_n hx hb d_D_move_16 rfl (lv_at hl 2 rfl) ?_
    have hPc := hP.sub (ws' := [((h 2), .inr (2, [.ref (h 3), .ref (h 4), .ref (h 5), .ref (h 6), .ref (h 7)])), ((h 3), .inl (k 0, 200, .inr (.inl ss.1))), ((h 4), .inl (k 0, 200, .inr (.inl ss.2.1))), ((h 5), .inl (k 0, 200, .inr (.inl ss.2.2.1))), ((h 6), .inl (k 0, 200, .inr (.inl ss.2.2.2.1))), ((h 7), .inl (k 1, 200, .inl ss.2.2.2.2))]) [1, 2, 3, 4, 5, 6] rfl
    refine vp_callSi (va_Run.run (va_runV (As := [.int (nI j), .long v]) (rest := []) ⟨hx, hb, hml, hown, htb⟩ (c_S_canMove l D k h ss j hj v) (cwV 2 htb (dd_gV tb_162 tb_163 tb_164 tb_5 tb_165) rfl rfl rfl hd_S_canMove ⟨Nat.le_of_ble_eq_true rfl, Nat.le_of_ble_eq_true rfl⟩) ⟨dd_PR.bl, va_recv hK hPc (ci := 2) (q0 := 0) rfl rfl, dd_PR.of hPc hK hN⟩ rfl rfl hl.1 rfl (lv_room (Nat.le_of_ble_eq_true rfl)) d_D_move_17 ⟨Nat.le_of_ble_eq_true rfl, Nat.le_of_ble_eq_true rfl⟩)) (fun r_3 er_3 => ?_)
    subst er_3
    refine lv_if_ne (tgt := 25) hx hb d_D_move_20 (by decide) (fun c_4 => ?_) (fun c_4 => ?_)
    · refine lv_aload_n hx hb d_D_move_25 rfl (lv_at hl 0 rfl) ?_
      refine va_get (D := D) (ci := 0) (v := .ref (h 2)) (C := R_D) (T := F_D) (N := 3) hx hb htb i_D hown hK hP 0 rfl rfl 1 (by decide) (htb _ tb_91) (fun _ h9 => h9) rfl d_D_move_26 ?_
      refine lv_iload_n hx hb d_D_move_29 rfl (lv_at hl 1 rfl) ?_
      refine lv_lload_n hx hb d_D_move_30 rfl (lv_at hl 2 rfl) ?_
      have hPc := hP.sub (ws' := [((h 2), .inr (2, [.ref (h 3), .ref (h 4), .ref (h 5), .ref (h 6), .ref (h 7)])), ((h 3), .inl (k 0, 200, .inr (.inl ss.1))), ((h 4), .inl (k 0, 200, .inr (.inl ss.2.1))), ((h 5), .inl (k 0, 200, .inr (.inl ss.2.2.1))), ((h 6), .inl (k 0, 200, .inr (.inl ss.2.2.2.1))), ((h 7), .inl (k 1, 200, .inl ss.2.2.2.2))]) [1, 2, 3, 4, 5, 6] rfl
      have hDc := hD.sub (ws' := [((h 2), .inr (2, [.ref (h 3), .ref (h 4), .ref (h 5), .ref (h 6), .ref (h 7)])), ((h 3), .inl (k 0, 200, .inr (.inl ss.1))), ((h 4), .inl (k 0, 200, .inr (.inl ss.2.1))), ((h 5), .inl (k 0, 200, .inr (.inl ss.2.2.1))), ((h 6), .inl (k 0, 200, .inr (.inl ss.2.2.2.1))), ((h 7), .inl (k 1, 200, .inl ss.2.2.2.2))]) [1, 2, 3, 4, 5, 6] (by decide) rfl
      refine dd_mv (wc := [((h 2), .inr (2, [.ref (h 3), .ref (h 4), .ref (h 5), .ref (h 6), .ref (h 7)])), ((h 3), .inl (k 0, 200, .inr (.inl ss.1))), ((h 4), .inl (k 0, 200, .inr (.inl ss.2.1))), ((h 5), .inl (k 0, 200, .inr (.inl ss.2.2.1))), ((h 6), .inl (k 0, 200, .inr (.inl ss.2.2.2.1))), ((h 7), .inl (k 1, 200, .inl ss.2.2.2.2))]) (wr := [((h 0), .inr (0, [.ref (h 1), .ref (h 2), .ref (h 8)]))]) (va_runV (As := [.int (nI j), .long v]) (rest := []) ⟨hx, hb, hml, hown, htb⟩ (c_S_move l D k h s.heap.size ss j hj v) (cwV 2 htb (dd_gV tb_171 tb_172 tb_173 tb_5 tb_174) rfl rfl rfl hd_S_move ⟨Nat.le_of_ble_eq_true rfl, Nat.le_of_ble_eq_true rfl⟩) ⟨dd_PM.bl, va_recv hK hPc (ci := 2) (q0 := 0) rfl rfl, dd_PM.of hPc hDc hK hN⟩ rfl rfl hl.1 rfl (lv_room (Nat.le_of_ble_eq_true rfl)) d_D_move_31 ⟨Nat.le_of_ble_eq_true rfl, Nat.le_of_ble_eq_true rfl⟩) hP hD hS hA [1, 2, 3, 4, 5, 6] [0] rfl rfl (by decide) (by decide) (fun  u H locs hw hP hD hS => ?_)
      subst hw
      have hP : va_P D dd_cl [((h 0), .inr (0, [.ref (h 1), .ref (h 2), .ref (h 8)])), ((h 2), .inr (2, [.ref (h 3), .ref (h 4), .ref (h 5), .ref (h 6), .ref (h 7)])), ((h 3), .inl (k 0, 200, .inr (.inl ((dd_mvS ss j v).1)))), ((h 4), .inl (k 0, 200, .inr (.inl ((dd_mvS ss j v).2.1)))), ((h 5), .inl (k 0, 200, .inr (.inl ((dd_mvS ss j v).2.2.1)))), ((h 6), .inl (k 0, 200, .inr (.inl ((dd_mvS ss j v).2.2.2.1)))), ((h 7), .inl (k 1, 200, .inl ((dd_mvS ss j v).2.2.2.2)))] H := hP.sub [0, 1, 2, 3, 4, 5, 6] rfl
      have hD : va_D A [((h 0), .inr (0, [.ref (h 1), .ref (h 2), .ref (h 8)])), ((h 2), .inr (2, [.ref (h 3), .ref (h 4), .ref (h 5), .ref (h 6), .ref (h 7)])), ((h 3), .inl (k 0, 200, .inr (.inl ((dd_mvS ss j v).1)))), ((h 4), .inl (k 0, 200, .inr (.inl ((dd_mvS ss j v).2.1)))), ((h 5), .inl (k 0, 200, .inr (.inl ((dd_mvS ss j v).2.2.1)))), ((h 6), .inl (k 0, 200, .inr (.inl ((dd_mvS ss j v).2.2.2.1)))), ((h 7), .inl (k 1, 200, .inl ((dd_mvS ss j v).2.2.2.2)))] := hD.sub [0, 1, 2, 3, 4, 5, 6] (by decide) rfl
      refine lv_lload_n hx hb d_D_move_34 rfl (lv_at hl 2 rfl) ?_
      refine lv_lconst (v := 0) hx hb d_D_move_35 (by decide) ?_
      refine dd_lc_ne (tgt := 44) hx hb d_D_move_36 d_D_move_37 (by decide) (fun c_5 => ?_) (fun c_5 => ?_)
      · refine lv_iconst (v := 1) hx hb d_D_move_44 (by decide) ?_
        have ecl : (nI j).toNatClampNeg = j := nI_clamp (by omega)
        have hP : va_P D dd_cl (dd_wDS k h (dd_mvS ss (nI j).toNatClampNeg v)) H := by rw [ecl]; exact hP
        have hD : va_D A (dd_wDS k h (dd_mvS ss (nI j).toNatClampNeg v)) := by rw [ecl]; exact hD
        exact W.iret (v := 1) hx hb hr (fun t ht hW => ⟨⟨1, (dd_mvS ss (nI j).toNatClampNeg v), rfl, Or.inr (Or.inr ⟨by unfold dd_okD; rw [if_neg c_2, nI_clamp (by omega), if_pos c_4]; decide, c_5, rfl, rfl⟩), by rw [ht]; exact hP, hD⟩, hS.F ht⟩) hS.2.2 d_D_move_45
      · refine lv_iconst (v := 0) hx hb d_D_move_40 (by decide) ?_
        refine lv_goto (tgt := 45) hx hb d_D_move_41 (by decide) ?_
        have ecl : (nI j).toNatClampNeg = j := nI_clamp (by omega)
        have hP : va_P D dd_cl (dd_wDS k h (dd_mvS ss (nI j).toNatClampNeg v)) H := by rw [ecl]; exact hP
        have hD : va_D A (dd_wDS k h (dd_mvS ss (nI j).toNatClampNeg v)) := by rw [ecl]; exact hD
        exact W.iret (v := 0) hx hb hr (fun t ht hW => ⟨⟨0, (dd_mvS ss (nI j).toNatClampNeg v), rfl, Or.inr (Or.inl ⟨by unfold dd_okD; rw [if_neg c_2, nI_clamp (by omega), if_pos c_4]; decide, c_5, rfl, rfl⟩), by rw [ht]; exact hP, hD⟩, hS.F ht⟩) hS.2.2 d_D_move_45
    · refine lv_iconst (v := (-1)) hx hb d_D_move_23 (by decide) ?_
      exact W.iret (v := (-1)) hx hb hr (fun t ht hW => ⟨⟨(-1), ss, rfl, Or.inl ⟨rfl, by unfold dd_okD; rw [if_neg c_2, nI_clamp (by omega), if_neg (not_not_intro c_4)], rfl⟩, by rw [ht]; exact hP, hD⟩, hS.F ht⟩) hS.2.2 d_D_move_24
set_option maxHeartbeats 4000000 in
set_option maxRecDepth 100000 in
theorem c_D_write_bad (l : Launch) (D : va_G) (k : Nat → ClassId) (h : Nat → Nat) (sz : Nat) (ss : dd_SS) (bt dg : Nat → Int32) (z : Int32) (q : Int32) (hbad : dd_isP q = 0) : Met l y_D_write w_D_write ({ frames := 1, cells := 0, slots := 0, locals := 26 }) (dd_PM D k sz (dd_wDSW k h ss (bt, dg, z)) [.ref (h 0), .int q]) (dd_Qi D (fun r (u : dd_WS) => r = -1 ∧ u = (bt, dg, z)) (fun u => dd_wDSW k h ss u) (va_A (dd_wDSW k h ss (bt, dg, z)) sz)) 0 0 (va_A (dd_wDSW k h ss (bt, dg, z)) sz) := by
  refine Met.ofW (cc := b_D_write) (maxL := 3) (ret := (some FieldType.int)) (by decide) rfl ?_
  intro p e s m args below meth c s₁ B hml hv
  obtain ⟨rfl, hsz, hP, hD0, hK, hN⟩ := hv
  have hx := B.exec
  have hb := B.bytes
  have hr := B.returns
  have htb := dd_tb (atoms_spec (ws := w_D_write) B.pre)
  have hown : s.vm.findClass "DayDesk" = some m.cls := findClass_of_methodNamed B.named
  have hlocks := B.notSynchronized
  subst hsz
  have hD := hD0.self (sz := s.heap.size)
  generalize hAe : va_A (dd_wDSW k h ss (bt, dg, z)) s.heap.size = A at hD ⊢
  have hA : ∀ q : Nat, s.heap.size ≤ q → A q := fun q h => by rw [← hAe]; exact Or.inr h
  have hS : va_S A s.heap s.heap [] := va_S.rf
  have hP : va_P D dd_cl [((h 0), .inr (0, [.ref (h 1), .ref (h 2), .ref (h 8)])), ((h 2), .inr (2, [.ref (h 3), .ref (h 4), .ref (h 5), .ref (h 6), .ref (h 7)])), ((h 3), .inl (k 0, 200, .inr (.inl ss.1))), ((h 4), .inl (k 0, 200, .inr (.inl ss.2.1))), ((h 5), .inl (k 0, 200, .inr (.inl ss.2.2.1))), ((h 6), .inl (k 0, 200, .inr (.inl ss.2.2.2.1))), ((h 7), .inl (k 1, 200, .inl ss.2.2.2.2)), ((h 8), .inr (3, [.ref (h 9), .ref (h 10), .int z])), ((h 9), .inl (k 2, 120, .inl bt)), ((h 10), .inl (k 2, 20, .inl dg))] s.heap := hP
  have hD : va_D A [((h 0), .inr (0, [.ref (h 1), .ref (h 2), .ref (h 8)])), ((h 2), .inr (2, [.ref (h 3), .ref (h 4), .ref (h 5), .ref (h 6), .ref (h 7)])), ((h 3), .inl (k 0, 200, .inr (.inl ss.1))), ((h 4), .inl (k 0, 200, .inr (.inl ss.2.1))), ((h 5), .inl (k 0, 200, .inr (.inl ss.2.2.1))), ((h 6), .inl (k 0, 200, .inr (.inl ss.2.2.2.1))), ((h 7), .inl (k 1, 200, .inl ss.2.2.2.2)), ((h 8), .inr (3, [.ref (h 9), .ref (h 10), .int z])), ((h 9), .inl (k 2, 120, .inl bt)), ((h 10), .inl (k 2, 20, .inl dg))] := hD
  have hl := lv_entry ([.ref (h 0), .int q]) (n := 3) (Nat.le_of_ble_eq_true rfl)
  rw [lg_entry_eq]
  generalize (lg_sl ([.ref (h 0), .int q]) ++ List.replicate (3 - (lg_sl ([.ref (h 0), .int q])).length) Slot.unset).toArray = ls at hl ⊢
  have hl : lv_has ls 3 [(0, .ref (h 0)), (1, .int q)] := hl
  refine lv_aload_n hx hb d_D_write_0 rfl (lv_at hl 0 rfl) ?_
  refine va_get (D := D) (ci := 0) (v := .ref (h 2)) (C := R_D) (T := F_D) (N := 3) hx hb htb i_D hown hK hP 0 rfl rfl 1 (by decide) (htb _ tb_91) (fun _ h9 => h9) rfl d_D_write_1 ?_
  refine lv_iload_n hx hb d_D_write_4 rfl (lv_at hl 1 rfl) ?_
  have hPc := hP.sub (ws' := [((h 2), .inr (2, [.ref (h 3), .ref (h 4), .ref (h 5), .ref (h 6), .ref (h 7)])), ((h 3), .inl (k 0, 200, .inr (.inl ss.1))), ((h 4), .inl (k 0, 200, .inr (.inl ss.2.1))), ((h 5), .inl (k 0, 200, .inr (.inl ss.2.2.1))), ((h 6), .inl (k 0, 200, .inr (.inl ss.2.2.2.1))), ((h 7), .inl (k 1, 200, .inl ss.2.2.2.2))]) [1, 2, 3, 4, 5, 6] rfl
  refine vp_callSi (va_Run.run (va_runV (As := [.int q]) (rest := []) ⟨hx, hb, hml, hown, htb⟩ (c_S_isPosition l D k h ss q) (cwV 1 htb (dd_gV tb_158 tb_159 tb_160 tb_5 tb_161) rfl rfl rfl hd_S_isPosition ⟨Nat.le_of_ble_eq_true rfl, Nat.le_of_ble_eq_true rfl⟩) ⟨dd_PR.bl, va_recv hK hPc (ci := 2) (q0 := 0) rfl rfl, dd_PR.of hPc hK hN⟩ rfl rfl hl.1 rfl (lv_room (Nat.le_of_ble_eq_true rfl)) d_D_write_5 ⟨Nat.le_of_ble_eq_true rfl, Nat.le_of_ble_eq_true rfl⟩)) (fun r_1 er_1 => ?_)
  subst er_1
  refine lv_if_ne (tgt := 13) hx hb d_D_write_8 (by decide) (fun c_2 => ?_) (fun c_2 => ?_)
  · exact absurd hbad c_2
  · refine lv_iconst (v := (-1)) hx hb d_D_write_11 (by decide) ?_
    exact W.iret (v := (-1)) hx hb hr (fun t ht hW => ⟨⟨(-1), (bt, dg, z), rfl, ⟨rfl, rfl⟩, by rw [ht]; exact hP, hD⟩, hS.F ht⟩) hS.2.2 d_D_write_12
set_option maxHeartbeats 4000000 in
set_option maxRecDepth 100000 in
theorem c_D_write (l : Launch) (D : va_G) (k : Nat → ClassId) (h : Nat → Nat) (sz : Nat) (ss : dd_SS) (bt dg : Nat → Int32) (z : Int32) (j : Nat) (hj : j < 200) (nn : Nat → Nat) (hnn : ∀ q, q < 5 → dd_isN (dd_ofS ss j (nI q)) (nn q)) (gg : Nat → List Int32) (hgg : ∀ q, q < 5 → gg q = dd_txt (dd_ofS ss j (nI q)) (nn q)) : Met l y_D_write w_D_write ({ frames := 1, cells := 0, slots := 0, locals := 26 }) (dd_PM D k sz (dd_wDSW k h ss (bt, dg, z)) [.ref (h 0), .int (nI j)]) (dd_Qi D (fun r (u : dd_WS) => r = nI (dd_rt gg 5).length ∧ u.1 = dd_app bt 0 (dd_rt gg 5) ∧ u.2.2 = nI (dd_rt gg 5).length) (fun u => dd_wDSW k h ss u) (va_A (dd_wDSW k h ss (bt, dg, z)) sz)) 0 0 (va_A (dd_wDSW k h ss (bt, dg, z)) sz) := by
  refine Met.ofW (cc := b_D_write) (maxL := 3) (ret := (some FieldType.int)) (by decide) rfl ?_
  intro p e s m args below meth c s₁ B hml hv
  obtain ⟨rfl, hsz, hP, hD0, hK, hN⟩ := hv
  have hx := B.exec
  have hb := B.bytes
  have hr := B.returns
  have htb := dd_tb (atoms_spec (ws := w_D_write) B.pre)
  have hown : s.vm.findClass "DayDesk" = some m.cls := findClass_of_methodNamed B.named
  have hlocks := B.notSynchronized
  subst hsz
  have hD := hD0.self (sz := s.heap.size)
  generalize hAe : va_A (dd_wDSW k h ss (bt, dg, z)) s.heap.size = A at hD ⊢
  have hA : ∀ q : Nat, s.heap.size ≤ q → A q := fun q h => by rw [← hAe]; exact Or.inr h
  have hS : va_S A s.heap s.heap [] := va_S.rf
  have hP : va_P D dd_cl [((h 0), .inr (0, [.ref (h 1), .ref (h 2), .ref (h 8)])), ((h 2), .inr (2, [.ref (h 3), .ref (h 4), .ref (h 5), .ref (h 6), .ref (h 7)])), ((h 3), .inl (k 0, 200, .inr (.inl ss.1))), ((h 4), .inl (k 0, 200, .inr (.inl ss.2.1))), ((h 5), .inl (k 0, 200, .inr (.inl ss.2.2.1))), ((h 6), .inl (k 0, 200, .inr (.inl ss.2.2.2.1))), ((h 7), .inl (k 1, 200, .inl ss.2.2.2.2)), ((h 8), .inr (3, [.ref (h 9), .ref (h 10), .int z])), ((h 9), .inl (k 2, 120, .inl bt)), ((h 10), .inl (k 2, 20, .inl dg))] s.heap := hP
  have hD : va_D A [((h 0), .inr (0, [.ref (h 1), .ref (h 2), .ref (h 8)])), ((h 2), .inr (2, [.ref (h 3), .ref (h 4), .ref (h 5), .ref (h 6), .ref (h 7)])), ((h 3), .inl (k 0, 200, .inr (.inl ss.1))), ((h 4), .inl (k 0, 200, .inr (.inl ss.2.1))), ((h 5), .inl (k 0, 200, .inr (.inl ss.2.2.1))), ((h 6), .inl (k 0, 200, .inr (.inl ss.2.2.2.1))), ((h 7), .inl (k 1, 200, .inl ss.2.2.2.2)), ((h 8), .inr (3, [.ref (h 9), .ref (h 10), .int z])), ((h 9), .inl (k 2, 120, .inl bt)), ((h 10), .inl (k 2, 20, .inl dg))] := hD
  have hl := lv_entry ([.ref (h 0), .int (nI j)]) (n := 3) (Nat.le_of_ble_eq_true rfl)
  rw [lg_entry_eq]
  generalize (lg_sl ([.ref (h 0), .int (nI j)]) ++ List.replicate (3 - (lg_sl ([.ref (h 0), .int (nI j)])).length) Slot.unset).toArray = ls at hl ⊢
  have hl : lv_has ls 3 [(0, .ref (h 0)), (1, .int (nI j))] := hl
  have hgl : ∀ q, q < 5 → (gg q).length ≤ 20 := fun q hq => by rw [hgg q hq]; exact dd_txt_len (hnn q hq)
  refine lv_aload_n hx hb d_D_write_0 rfl (lv_at hl 0 rfl) ?_
  refine va_get (D := D) (ci := 0) (v := .ref (h 2)) (C := R_D) (T := F_D) (N := 3) hx hb htb i_D hown hK hP 0 rfl rfl 1 (by decide) (htb _ tb_91) (fun _ h9 => h9) rfl d_D_write_1 ?_
  refine lv_iload_n hx hb d_D_write_4 rfl (lv_at hl 1 rfl) ?_
  have hPc := hP.sub (ws' := [((h 2), .inr (2, [.ref (h 3), .ref (h 4), .ref (h 5), .ref (h 6), .ref (h 7)])), ((h 3), .inl (k 0, 200, .inr (.inl ss.1))), ((h 4), .inl (k 0, 200, .inr (.inl ss.2.1))), ((h 5), .inl (k 0, 200, .inr (.inl ss.2.2.1))), ((h 6), .inl (k 0, 200, .inr (.inl ss.2.2.2.1))), ((h 7), .inl (k 1, 200, .inl ss.2.2.2.2))]) [1, 2, 3, 4, 5, 6] rfl
  refine vp_callSi (va_Run.run (va_runV (As := [.int (nI j)]) (rest := []) ⟨hx, hb, hml, hown, htb⟩ (c_S_isPosition l D k h ss (nI j)) (cwV 1 htb (dd_gV tb_158 tb_159 tb_160 tb_5 tb_161) rfl rfl rfl hd_S_isPosition ⟨Nat.le_of_ble_eq_true rfl, Nat.le_of_ble_eq_true rfl⟩) ⟨dd_PR.bl, va_recv hK hPc (ci := 2) (q0 := 0) rfl rfl, dd_PR.of hPc hK hN⟩ rfl rfl hl.1 rfl (lv_room (Nat.le_of_ble_eq_true rfl)) d_D_write_5 ⟨Nat.le_of_ble_eq_true rfl, Nat.le_of_ble_eq_true rfl⟩)) (fun r_1 er_1 => ?_)
  subst er_1
  refine lv_if_ne (tgt := 13) hx hb d_D_write_8 (by decide) (fun c_2 => ?_) (fun c_2 => ?_)
  · refine lv_aload_n hx hb d_D_write_13 rfl (lv_at hl 0 rfl) ?_
    refine va_get (D := D) (ci := 0) (v := .ref (h 8)) (C := R_D) (T := F_D) (N := 3) hx hb htb i_D hown hK hP 0 rfl rfl 2 (by decide) (htb _ tb_92) (fun _ h9 => h9) rfl d_D_write_14 ?_
    refine lv_iconst (v := 0) hx hb d_D_write_17 (by decide) ?_
    refine lv_topi (fun y_3 ey_3 => ?_)
    obtain rfl : y_3 = (nI 0) := ey_3.trans nI_0.symm
    refine va_putN (D := D) (ci := 3) (v := .int (nI 0)) (ty := .int) (C := R_W) (T := F_W) (N := 3) hx hb htb i_W t_W t_W_ok n_W hown hK hP hD hS 7 rfl rfl 2 (by decide) (va_Nw.use rfl hN.2.2.2.1) (fun _ h9 => h9) rfl (by decide +kernel) rfl rfl (Nat.le_of_ble_eq_true rfl) d_D_write_18 (fun H locs hP hD hS => ?_)
    have hP : va_P D dd_cl [((h 0), .inr (0, [.ref (h 1), .ref (h 2), .ref (h 8)])), ((h 2), .inr (2, [.ref (h 3), .ref (h 4), .ref (h 5), .ref (h 6), .ref (h 7)])), ((h 3), .inl (k 0, 200, .inr (.inl ss.1))), ((h 4), .inl (k 0, 200, .inr (.inl ss.2.1))), ((h 5), .inl (k 0, 200, .inr (.inl ss.2.2.1))), ((h 6), .inl (k 0, 200, .inr (.inl ss.2.2.2.1))), ((h 7), .inl (k 1, 200, .inl ss.2.2.2.2)), ((h 8), .inr (3, [.ref (h 9), .ref (h 10), .int (nI 0)])), ((h 9), .inl (k 2, 120, .inl bt)), ((h 10), .inl (k 2, 20, .inl dg))] H := hP
    have hD : va_D A [((h 0), .inr (0, [.ref (h 1), .ref (h 2), .ref (h 8)])), ((h 2), .inr (2, [.ref (h 3), .ref (h 4), .ref (h 5), .ref (h 6), .ref (h 7)])), ((h 3), .inl (k 0, 200, .inr (.inl ss.1))), ((h 4), .inl (k 0, 200, .inr (.inl ss.2.1))), ((h 5), .inl (k 0, 200, .inr (.inl ss.2.2.1))), ((h 6), .inl (k 0, 200, .inr (.inl ss.2.2.2.1))), ((h 7), .inl (k 1, 200, .inl ss.2.2.2.2)), ((h 8), .inr (3, [.ref (h 9), .ref (h 10), .int (nI 0)])), ((h 9), .inl (k 2, 120, .inl bt)), ((h 10), .inl (k 2, 20, .inl dg))] := hD
    refine lv_iconst (v := 0) hx hb d_D_write_21 (by decide) ?_
    refine lv_istore_n (lv' := [(2, .int 0), (0, .ref (h 0)), (1, .int (nI j))]) hx hb d_D_write_22 rfl hl (by decide) rfl (fun ls hl => ?_)
    refine dd_loop (α := Array Slot × Nat × (Nat → Int32)) (I := fun a H locs => (lv_has a.1 3 [(2, .int (nI a.2.1)), (1, .int (nI j)), (0, .ref (h 0))]) ∧ (a.2.1 ≤ 5) ∧ (va_P D dd_cl [((h 0), .inr (0, [.ref (h 1), .ref (h 2), .ref (h 8)])), ((h 2), .inr (2, [.ref (h 3), .ref (h 4), .ref (h 5), .ref (h 6), .ref (h 7)])), ((h 3), .inl (k 0, 200, .inr (.inl ss.1))), ((h 4), .inl (k 0, 200, .inr (.inl ss.2.1))), ((h 5), .inl (k 0, 200, .inr (.inl ss.2.2.1))), ((h 6), .inl (k 0, 200, .inr (.inl ss.2.2.2.1))), ((h 7), .inl (k 1, 200, .inl ss.2.2.2.2)), ((h 8), .inr (3, [.ref (h 9), .ref (h 10), .int (nI (dd_rt gg a.2.1).length)])), ((h 9), .inl (k 2, 120, .inl (dd_app bt 0 (dd_rt gg a.2.1)))), ((h 10), .inl (k 2, 20, .inl a.2.2))] H) ∧ (va_D A [((h 0), .inr (0, [.ref (h 1), .ref (h 2), .ref (h 8)])), ((h 2), .inr (2, [.ref (h 3), .ref (h 4), .ref (h 5), .ref (h 6), .ref (h 7)])), ((h 3), .inl (k 0, 200, .inr (.inl ss.1))), ((h 4), .inl (k 0, 200, .inr (.inl ss.2.1))), ((h 5), .inl (k 0, 200, .inr (.inl ss.2.2.1))), ((h 6), .inl (k 0, 200, .inr (.inl ss.2.2.2.1))), ((h 7), .inl (k 1, 200, .inl ss.2.2.2.2)), ((h 8), .inr (3, [.ref (h 9), .ref (h 10), .int (nI (dd_rt gg a.2.1).length)])), ((h 9), .inl (k 2, 120, .inl (dd_app bt 0 (dd_rt gg a.2.1)))), ((h 10), .inl (k 2, 20, .inl a.2.2))]) ∧ (va_S A s.heap H locs)) (g := fun a => F0 m 23 a.1 []) (μ := fun a => 5 - a.2.1) (fun a H locs hI ih23 => ?_) (ls, 0, dg) ⟨lv_sub hl [0, 2, 1] rfl, Nat.zero_le 5, hP, hD, hS⟩
    obtain ⟨ls, q, dq⟩ := a
    obtain ⟨hl, hq, hP, hD, hS⟩ := hI
    have hl : lv_has ls 3 [(2, .int (nI q)), (1, .int (nI j)), (0, .ref (h 0))] := hl
    have hq : q ≤ 5 := hq
    have hP : va_P D dd_cl [((h 0), .inr (0, [.ref (h 1), .ref (h 2), .ref (h 8)])), ((h 2), .inr (2, [.ref (h 3), .ref (h 4), .ref (h 5), .ref (h 6), .ref (h 7)])), ((h 3), .inl (k 0, 200, .inr (.inl ss.1))), ((h 4), .inl (k 0, 200, .inr (.inl ss.2.1))), ((h 5), .inl (k 0, 200, .inr (.inl ss.2.2.1))), ((h 6), .inl (k 0, 200, .inr (.inl ss.2.2.2.1))), ((h 7), .inl (k 1, 200, .inl ss.2.2.2.2)), ((h 8), .inr (3, [.ref (h 9), .ref (h 10), .int (nI (dd_rt gg q).length)])), ((h 9), .inl (k 2, 120, .inl (dd_app bt 0 (dd_rt gg q)))), ((h 10), .inl (k 2, 20, .inl dq))] H := hP
    have hD : va_D A [((h 0), .inr (0, [.ref (h 1), .ref (h 2), .ref (h 8)])), ((h 2), .inr (2, [.ref (h 3), .ref (h 4), .ref (h 5), .ref (h 6), .ref (h 7)])), ((h 3), .inl (k 0, 200, .inr (.inl ss.1))), ((h 4), .inl (k 0, 200, .inr (.inl ss.2.1))), ((h 5), .inl (k 0, 200, .inr (.inl ss.2.2.1))), ((h 6), .inl (k 0, 200, .inr (.inl ss.2.2.2.1))), ((h 7), .inl (k 1, 200, .inl ss.2.2.2.2)), ((h 8), .inr (3, [.ref (h 9), .ref (h 10), .int (nI (dd_rt gg q).length)])), ((h 9), .inl (k 2, 120, .inl (dd_app bt 0 (dd_rt gg q)))), ((h 10), .inl (k 2, 20, .inl dq))] := hD
    have hS : va_S A s.heap H locs := hS
    refine W.eq (g2 := F0 m 23 ls []) rfl ?_
    refine lv_iload_n hx hb d_D_write_23 rfl (lv_at hl 0 rfl) ?_
    refine lv_iconst (v := 5) hx hb d_D_write_24 (by decide) ?_
    refine lv_icmp_ge (tgt := 61) hx hb d_D_write_25 (by decide) (fun c_4 => ?_) (fun c_4 => ?_)
    · have e5 : q = 5 := Nat.le_antisymm hq (dd_le_nI (a := 5) (by decide) (by omega) c_4)
      rw [e5] at hP hD
      have hP : va_P D dd_cl [((h 0), .inr (0, [.ref (h 1), .ref (h 2), .ref (h 8)])), ((h 2), .inr (2, [.ref (h 3), .ref (h 4), .ref (h 5), .ref (h 6), .ref (h 7)])), ((h 3), .inl (k 0, 200, .inr (.inl ss.1))), ((h 4), .inl (k 0, 200, .inr (.inl ss.2.1))), ((h 5), .inl (k 0, 200, .inr (.inl ss.2.2.1))), ((h 6), .inl (k 0, 200, .inr (.inl ss.2.2.2.1))), ((h 7), .inl (k 1, 200, .inl ss.2.2.2.2)), ((h 8), .inr (3, [.ref (h 9), .ref (h 10), .int (nI (dd_rt gg 5).length)])), ((h 9), .inl (k 2, 120, .inl (dd_app bt 0 (dd_rt gg 5)))), ((h 10), .inl (k 2, 20, .inl dq))] H := hP
      have hD : va_D A [((h 0), .inr (0, [.ref (h 1), .ref (h 2), .ref (h 8)])), ((h 2), .inr (2, [.ref (h 3), .ref (h 4), .ref (h 5), .ref (h 6), .ref (h 7)])), ((h 3), .inl (k 0, 200, .inr (.inl ss.1))), ((h 4), .inl (k 0, 200, .inr (.inl ss.2.1))), ((h 5), .inl (k 0, 200, .inr (.inl ss.2.2.1))), ((h 6), .inl (k 0, 200, .inr (.inl ss.2.2.2.1))), ((h 7), .inl (k 1, 200, .inl ss.2.2.2.2)), ((h 8), .inr (3, [.ref (h 9), .ref (h 10), .int (nI (dd_rt gg 5).length)])), ((h 9), .inl (k 2, 120, .inl (dd_app bt 0 (dd_rt gg 5)))), ((h 10), .inl (k 2, 20, .inl dq))] := hD
      refine lv_aload_n hx hb d_D_write_61 rfl (lv_at hl 2 rfl) ?_
      refine va_get (D := D) (ci := 0) (v := .ref (h 8)) (C := R_D) (T := F_D) (N := 3) hx hb htb i_D hown hK hP 0 rfl rfl 2 (by decide) (htb _ tb_92) (fun _ h9 => h9) rfl d_D_write_62 ?_
      refine va_getN (D := D) (ci := 3) (v := .int (nI (dd_rt gg 5).length)) (C := R_W) (T := F_W) (N := 3) hx hb htb i_W hown hK hP 7 rfl rfl 2 (by decide) (va_Nw.use rfl hN.2.2.2.1) (fun _ h9 => h9) rfl d_D_write_65 ?_
      exact W.iret (v := (nI (dd_rt gg 5).length)) hx hb hr (fun t ht hW => ⟨⟨(nI (dd_rt gg 5).length), (dd_app bt 0 (dd_rt gg 5), dq, nI (dd_rt gg 5).length), rfl, ⟨rfl, rfl, rfl⟩, by rw [ht]; exact hP, hD⟩, hS.F ht⟩) hS.2.2 d_D_write_68
    · have hlt : q < 5 := dd_nle_nI (a := 5) (by omega) c_4
      have hln := dd_rt_len hgl q hq
      refine dd_jnH (α := List Int32) (P := fun sp H locs => sp = (if q = 0 then [] else [32]) ∧ va_P D dd_cl [((h 0), .inr (0, [.ref (h 1), .ref (h 2), .ref (h 8)])), ((h 2), .inr (2, [.ref (h 3), .ref (h 4), .ref (h 5), .ref (h 6), .ref (h 7)])), ((h 3), .inl (k 0, 200, .inr (.inl ss.1))), ((h 4), .inl (k 0, 200, .inr (.inl ss.2.1))), ((h 5), .inl (k 0, 200, .inr (.inl ss.2.2.1))), ((h 6), .inl (k 0, 200, .inr (.inl ss.2.2.2.1))), ((h 7), .inl (k 1, 200, .inl ss.2.2.2.2)), ((h 8), .inr (3, [.ref (h 9), .ref (h 10), .int (nI (dd_rt gg q ++ sp).length)])), ((h 9), .inl (k 2, 120, .inl (dd_app bt 0 (dd_rt gg q ++ sp)))), ((h 10), .inl (k 2, 20, .inl dq))] H ∧ va_D A [((h 0), .inr (0, [.ref (h 1), .ref (h 2), .ref (h 8)])), ((h 2), .inr (2, [.ref (h 3), .ref (h 4), .ref (h 5), .ref (h 6), .ref (h 7)])), ((h 3), .inl (k 0, 200, .inr (.inl ss.1))), ((h 4), .inl (k 0, 200, .inr (.inl ss.2.1))), ((h 5), .inl (k 0, 200, .inr (.inl ss.2.2.1))), ((h 6), .inl (k 0, 200, .inr (.inl ss.2.2.2.1))), ((h 7), .inl (k 1, 200, .inl ss.2.2.2.2)), ((h 8), .inr (3, [.ref (h 9), .ref (h 10), .int (nI (dd_rt gg q ++ sp).length)])), ((h 9), .inl (k 2, 120, .inl (dd_app bt 0 (dd_rt gg q ++ sp)))), ((h 10), .inl (k 2, 20, .inl dq))] ∧ va_S A s.heap H locs) (g := fun _ => F0 m 39 ls []) (fun sp H locs hJ => ?_) (fun jn39 => ?_)
      · obtain ⟨esp, hP, hD, hS⟩ := hJ
        have hP : va_P D dd_cl [((h 0), .inr (0, [.ref (h 1), .ref (h 2), .ref (h 8)])), ((h 2), .inr (2, [.ref (h 3), .ref (h 4), .ref (h 5), .ref (h 6), .ref (h 7)])), ((h 3), .inl (k 0, 200, .inr (.inl ss.1))), ((h 4), .inl (k 0, 200, .inr (.inl ss.2.1))), ((h 5), .inl (k 0, 200, .inr (.inl ss.2.2.1))), ((h 6), .inl (k 0, 200, .inr (.inl ss.2.2.2.1))), ((h 7), .inl (k 1, 200, .inl ss.2.2.2.2)), ((h 8), .inr (3, [.ref (h 9), .ref (h 10), .int (nI (dd_rt gg q ++ sp).length)])), ((h 9), .inl (k 2, 120, .inl (dd_app bt 0 (dd_rt gg q ++ sp)))), ((h 10), .inl (k 2, 20, .inl dq))] H := hP
        have hD : va_D A [((h 0), .inr (0, [.ref (h 1), .ref (h 2), .ref (h 8)])), ((h 2), .inr (2, [.ref (h 3), .ref (h 4), .ref (h 5), .ref (h 6), .ref (h 7)])), ((h 3), .inl (k 0, 200, .inr (.inl ss.1))), ((h 4), .inl (k 0, 200, .inr (.inl ss.2.1))), ((h 5), .inl (k 0, 200, .inr (.inl ss.2.2.1))), ((h 6), .inl (k 0, 200, .inr (.inl ss.2.2.2.1))), ((h 7), .inl (k 1, 200, .inl ss.2.2.2.2)), ((h 8), .inr (3, [.ref (h 9), .ref (h 10), .int (nI (dd_rt gg q ++ sp).length)])), ((h 9), .inl (k 2, 120, .inl (dd_app bt 0 (dd_rt gg q ++ sp)))), ((h 10), .inl (k 2, 20, .inl dq))] := hD
        have hsl : sp.length ≤ 1 := by rw [esp]; split <;> simp
        have hl2 : (dd_rt gg q ++ sp).length = (dd_rt gg q).length + sp.length := List.length_append
        refine lv_aload_n hx hb d_D_write_39 rfl (lv_at hl 2 rfl) ?_
        refine va_get (D := D) (ci := 0) (v := .ref (h 8)) (C := R_D) (T := F_D) (N := 3) hx hb htb i_D hown hK hP 0 rfl rfl 2 (by decide) (htb _ tb_92) (fun _ h9 => h9) rfl d_D_write_40 ?_
        refine lv_aload_n hx hb d_D_write_43 rfl (lv_at hl 2 rfl) ?_
        refine va_get (D := D) (ci := 0) (v := .ref (h 2)) (C := R_D) (T := F_D) (N := 3) hx hb htb i_D hown hK hP 0 rfl rfl 1 (by decide) (htb _ tb_91) (fun _ h9 => h9) rfl d_D_write_44 ?_
        refine lv_iload_n hx hb d_D_write_47 rfl (lv_at hl 1 rfl) ?_
        refine lv_iload_n hx hb d_D_write_48 rfl (lv_at hl 0 rfl) ?_
        have hPc := hP.sub (ws' := [((h 2), .inr (2, [.ref (h 3), .ref (h 4), .ref (h 5), .ref (h 6), .ref (h 7)])), ((h 3), .inl (k 0, 200, .inr (.inl ss.1))), ((h 4), .inl (k 0, 200, .inr (.inl ss.2.1))), ((h 5), .inl (k 0, 200, .inr (.inl ss.2.2.1))), ((h 6), .inl (k 0, 200, .inr (.inl ss.2.2.2.1))), ((h 7), .inl (k 1, 200, .inl ss.2.2.2.2))]) [1, 2, 3, 4, 5, 6] rfl
        refine vp_callSl (va_Run.run (va_runV (As := [.int (nI j), .int (nI q)]) (rest := [.ref (h 8)]) ⟨hx, hb, hml, hown, htb⟩ (c_S_of l D k h ss j hj (nI q)) (cwV 2 htb (dd_gV tb_179 tb_180 tb_181 tb_5 tb_182) rfl rfl rfl hd_S_of ⟨Nat.le_of_ble_eq_true rfl, Nat.le_of_ble_eq_true rfl⟩) ⟨dd_PR.bl, va_recv hK hPc (ci := 2) (q0 := 0) rfl rfl, dd_PR.of hPc hK hN⟩ rfl rfl hl.1 rfl (lv_room (Nat.le_of_ble_eq_true rfl)) d_D_write_49 ⟨Nat.le_of_ble_eq_true rfl, Nat.le_of_ble_eq_true rfl⟩)) (fun r_5 er_5 => ?_)
        subst er_5
        have hPc := hP.sub (ws' := [((h 8), .inr (3, [.ref (h 9), .ref (h 10), .int (nI (dd_rt gg q ++ sp).length)])), ((h 9), .inl (k 2, 120, .inl (dd_app bt 0 (dd_rt gg q ++ sp)))), ((h 10), .inl (k 2, 20, .inl dq))]) [7, 8, 9] rfl
        have hDc := hD.sub (ws' := [((h 8), .inr (3, [.ref (h 9), .ref (h 10), .int (nI (dd_rt gg q ++ sp).length)])), ((h 9), .inl (k 2, 120, .inl (dd_app bt 0 (dd_rt gg q ++ sp)))), ((h 10), .inl (k 2, 20, .inl dq))]) [7, 8, 9] (by decide) rfl
        refine dd_mv (wc := [((h 8), .inr (3, [.ref (h 9), .ref (h 10), .int (nI (dd_rt gg q ++ sp).length)])), ((h 9), .inl (k 2, 120, .inl (dd_app bt 0 (dd_rt gg q ++ sp)))), ((h 10), .inl (k 2, 20, .inl dq))]) (wr := [((h 0), .inr (0, [.ref (h 1), .ref (h 2), .ref (h 8)])), ((h 2), .inr (2, [.ref (h 3), .ref (h 4), .ref (h 5), .ref (h 6), .ref (h 7)])), ((h 3), .inl (k 0, 200, .inr (.inl ss.1))), ((h 4), .inl (k 0, 200, .inr (.inl ss.2.1))), ((h 5), .inl (k 0, 200, .inr (.inl ss.2.2.1))), ((h 6), .inl (k 0, 200, .inr (.inl ss.2.2.2.1))), ((h 7), .inl (k 1, 200, .inl ss.2.2.2.2))]) (va_runV (As := [.long (dd_ofS ss j (nI q))]) (rest := []) ⟨hx, hb, hml, hown, htb⟩ (c_W_write l D k h H.size (dd_app bt 0 (dd_rt gg q ++ sp)) dq ((dd_rt gg q ++ sp).length) (dd_ofS ss j (nI q)) (nn q) (hnn q hlt) (by omega)) (cwV 1 htb (dd_gV tb_199 tb_200 tb_201 tb_6 tb_202) rfl rfl rfl hd_W_write ⟨Nat.le_of_ble_eq_true rfl, Nat.le_of_ble_eq_true rfl⟩) ⟨dd_PM.bl, va_recv hK hPc (ci := 3) (q0 := 0) rfl rfl, dd_PM.of hPc hDc hK hN⟩ rfl rfl hl.1 rfl (lv_room (Nat.le_of_ble_eq_true rfl)) d_D_write_52 ⟨Nat.le_of_ble_eq_true rfl, Nat.le_of_ble_eq_true rfl⟩) hP hD hS hA [7, 8, 9] [0, 1, 2, 3, 4, 5, 6] rfl rfl (by decide) (by decide) (fun  u H locs hw hP hD hS => ?_)
        obtain ⟨b_9, dg_6, z_9⟩ := u
        obtain ⟨e_8, e_9⟩ := hw
        dsimp only at e_8 e_9
        subst e_8
        subst e_9
        have hP : va_P D dd_cl [((h 0), .inr (0, [.ref (h 1), .ref (h 2), .ref (h 8)])), ((h 2), .inr (2, [.ref (h 3), .ref (h 4), .ref (h 5), .ref (h 6), .ref (h 7)])), ((h 3), .inl (k 0, 200, .inr (.inl ss.1))), ((h 4), .inl (k 0, 200, .inr (.inl ss.2.1))), ((h 5), .inl (k 0, 200, .inr (.inl ss.2.2.1))), ((h 6), .inl (k 0, 200, .inr (.inl ss.2.2.2.1))), ((h 7), .inl (k 1, 200, .inl ss.2.2.2.2)), ((h 8), .inr (3, [.ref (h 9), .ref (h 10), .int (nI (((dd_rt gg q ++ sp).length) + (dd_txt (dd_ofS ss j (nI q)) (nn q)).length))])), ((h 9), .inl (k 2, 120, .inl (dd_app (dd_app bt 0 (dd_rt gg q ++ sp)) ((dd_rt gg q ++ sp).length) (dd_txt (dd_ofS ss j (nI q)) (nn q))))), ((h 10), .inl (k 2, 20, .inl dg_6))] H := hP.sub [0, 1, 2, 3, 4, 5, 6, 7, 8, 9] rfl
        have hD : va_D A [((h 0), .inr (0, [.ref (h 1), .ref (h 2), .ref (h 8)])), ((h 2), .inr (2, [.ref (h 3), .ref (h 4), .ref (h 5), .ref (h 6), .ref (h 7)])), ((h 3), .inl (k 0, 200, .inr (.inl ss.1))), ((h 4), .inl (k 0, 200, .inr (.inl ss.2.1))), ((h 5), .inl (k 0, 200, .inr (.inl ss.2.2.1))), ((h 6), .inl (k 0, 200, .inr (.inl ss.2.2.2.1))), ((h 7), .inl (k 1, 200, .inl ss.2.2.2.2)), ((h 8), .inr (3, [.ref (h 9), .ref (h 10), .int (nI (((dd_rt gg q ++ sp).length) + (dd_txt (dd_ofS ss j (nI q)) (nn q)).length))])), ((h 9), .inl (k 2, 120, .inl (dd_app (dd_app bt 0 (dd_rt gg q ++ sp)) ((dd_rt gg q ++ sp).length) (dd_txt (dd_ofS ss j (nI q)) (nn q))))), ((h 10), .inl (k 2, 20, .inl dg_6))] := hD.sub [0, 1, 2, 3, 4, 5, 6, 7, 8, 9] (by decide) rfl
        refine lv_iinc (v := (nI (q + 1))) (lv' := [(2, .int (nI (q + 1))), (1, .int (nI j)), (0, .ref (h 0))]) hx hb d_D_write_55 hl (k := 0) rfl (dd_inc q) (by decide) rfl (fun ls hl => ?_)
        refine lv_goto (tgt := 23) hx hb d_D_write_58 (by decide) ?_
        rw [← hgg q hlt, ← dd_app_app0, ← List.length_append, List.append_assoc, esp] at hP hD
        exact ih23 (ls, (q + 1), dg_6) _ _ ⟨lv_sub hl [0, 1, 2] rfl, hlt, hP, hD, hS⟩ (by dsimp only; omega)
      refine lv_iload_n hx hb d_D_write_28 rfl (lv_at hl 0 rfl) ?_
      refine lv_if_le (tgt := 39) hx hb d_D_write_29 (by decide) (fun c_7 => ?_) (fun c_7 => ?_)
      · have eq0 : q = 0 := by have := dd_le_nI (a := q) (b := 0) (by omega) (by decide) c_7; omega
        rw [← List.append_nil (dd_rt gg q)] at hP hD
        exact jn39 [] _ _ ⟨(if_pos eq0).symm, hP, hD, hS⟩
      · refine lv_aload_n hx hb d_D_write_32 rfl (lv_at hl 2 rfl) ?_
        refine va_get (D := D) (ci := 0) (v := .ref (h 8)) (C := R_D) (T := F_D) (N := 3) hx hb htb i_D hown hK hP 0 rfl rfl 2 (by decide) (htb _ tb_92) (fun _ h9 => h9) rfl d_D_write_33 ?_
        have hPc := hP.sub (ws' := [((h 8), .inr (3, [.ref (h 9), .ref (h 10), .int (nI (dd_rt gg q).length)])), ((h 9), .inl (k 2, 120, .inl (dd_app bt 0 (dd_rt gg q)))), ((h 10), .inl (k 2, 20, .inl dq))]) [7, 8, 9] rfl
        have hDc := hD.sub (ws' := [((h 8), .inr (3, [.ref (h 9), .ref (h 10), .int (nI (dd_rt gg q).length)])), ((h 9), .inl (k 2, 120, .inl (dd_app bt 0 (dd_rt gg q)))), ((h 10), .inl (k 2, 20, .inl dq))]) [7, 8, 9] (by decide) rfl
        refine dd_mv (wc := [((h 8), .inr (3, [.ref (h 9), .ref (h 10), .int (nI (dd_rt gg q).length)])), ((h 9), .inl (k 2, 120, .inl (dd_app bt 0 (dd_rt gg q)))), ((h 10), .inl (k 2, 20, .inl dq))]) (wr := [((h 0), .inr (0, [.ref (h 1), .ref (h 2), .ref (h 8)])), ((h 2), .inr (2, [.ref (h 3), .ref (h 4), .ref (h 5), .ref (h 6), .ref (h 7)])), ((h 3), .inl (k 0, 200, .inr (.inl ss.1))), ((h 4), .inl (k 0, 200, .inr (.inl ss.2.1))), ((h 5), .inl (k 0, 200, .inr (.inl ss.2.2.1))), ((h 6), .inl (k 0, 200, .inr (.inl ss.2.2.2.1))), ((h 7), .inl (k 1, 200, .inl ss.2.2.2.2))]) (va_runV (As := []) (rest := []) ⟨hx, hb, hml, hown, htb⟩ (c_W_blank l D k h H.size (dd_app bt 0 (dd_rt gg q)) dq ((dd_rt gg q).length) (by omega)) (cwV 0 htb (dd_gV tb_195 tb_196 tb_197 tb_6 tb_198) rfl rfl rfl hd_W_blank ⟨Nat.le_of_ble_eq_true rfl, Nat.le_of_ble_eq_true rfl⟩) ⟨dd_PM.bl, va_recv hK hPc (ci := 3) (q0 := 0) rfl rfl, dd_PM.of hPc hDc hK hN⟩ rfl rfl hl.1 rfl (lv_room (Nat.le_of_ble_eq_true rfl)) d_D_write_36 ⟨Nat.le_of_ble_eq_true rfl, Nat.le_of_ble_eq_true rfl⟩) hP hD hS hA [7, 8, 9] [0, 1, 2, 3, 4, 5, 6] rfl rfl (by decide) (by decide) (fun  u H locs hw hP hD hS => ?_)
        subst hw
        have hP : va_P D dd_cl [((h 0), .inr (0, [.ref (h 1), .ref (h 2), .ref (h 8)])), ((h 2), .inr (2, [.ref (h 3), .ref (h 4), .ref (h 5), .ref (h 6), .ref (h 7)])), ((h 3), .inl (k 0, 200, .inr (.inl ss.1))), ((h 4), .inl (k 0, 200, .inr (.inl ss.2.1))), ((h 5), .inl (k 0, 200, .inr (.inl ss.2.2.1))), ((h 6), .inl (k 0, 200, .inr (.inl ss.2.2.2.1))), ((h 7), .inl (k 1, 200, .inl ss.2.2.2.2)), ((h 8), .inr (3, [.ref (h 9), .ref (h 10), .int (nI (((dd_rt gg q).length) + 1))])), ((h 9), .inl (k 2, 120, .inl (upd (dd_app bt 0 (dd_rt gg q)) ((dd_rt gg q).length) 32))), ((h 10), .inl (k 2, 20, .inl dq))] H := hP.sub [0, 1, 2, 3, 4, 5, 6, 7, 8, 9] rfl
        have hD : va_D A [((h 0), .inr (0, [.ref (h 1), .ref (h 2), .ref (h 8)])), ((h 2), .inr (2, [.ref (h 3), .ref (h 4), .ref (h 5), .ref (h 6), .ref (h 7)])), ((h 3), .inl (k 0, 200, .inr (.inl ss.1))), ((h 4), .inl (k 0, 200, .inr (.inl ss.2.1))), ((h 5), .inl (k 0, 200, .inr (.inl ss.2.2.1))), ((h 6), .inl (k 0, 200, .inr (.inl ss.2.2.2.1))), ((h 7), .inl (k 1, 200, .inl ss.2.2.2.2)), ((h 8), .inr (3, [.ref (h 9), .ref (h 10), .int (nI (((dd_rt gg q).length) + 1))])), ((h 9), .inl (k 2, 120, .inl (upd (dd_app bt 0 (dd_rt gg q)) ((dd_rt gg q).length) 32))), ((h 10), .inl (k 2, 20, .inl dq))] := hD.sub [0, 1, 2, 3, 4, 5, 6, 7, 8, 9] (by decide) rfl
        have eq0 : ¬ q = 0 := fun e => by rw [e] at c_7; exact c_7 (by decide)
        have es := dd_app_snoc (dd_rt gg q) bt 0 32
        rw [Nat.zero_add] at es
        have el : (dd_rt gg q ++ [32]).length = (dd_rt gg q).length + 1 := by simp
        rw [← es, ← el] at hP hD
        exact jn39 [32] _ _ ⟨(if_neg eq0).symm, hP, hD, hS⟩
  · exact absurd c_2 (by rw [dd_isP_nI hj]; decide)
set_option maxHeartbeats 4000000 in
set_option maxRecDepth 100000 in
theorem c_D_at (l : Launch) (D : va_G) (k : Nat → ClassId) (h : Nat → Nat) (bt dg : Nat → Int32) (z : Nat) (hz : z ≤ 120) (i : Int32) : Met l y_D_at w_D_at ({ frames := 0, cells := 0, slots := 0, locals := 0 }) (dd_PR D k (dd_wDW k h (bt, dg, nI z)) [.ref (h 0), .int i]) (vp_Si (fun r => r = dd_atM bt z i)) 0 0 (fun _ => False) := by
  refine Met.ofW (cc := b_D_at) (maxL := 2) (ret := (some FieldType.int)) (by decide) rfl ?_
  intro p e s m args below meth c s₁ B hml hv
  obtain ⟨rfl, hP, hK, hN⟩ := hv
  have hx := B.exec
  have hb := B.bytes
  have hr := B.returns
  have htb := dd_tb (atoms_spec (ws := w_D_at) B.pre)
  have hown : s.vm.findClass "DayDesk" = some m.cls := findClass_of_methodNamed B.named
  have hlocks := B.notSynchronized
  have hS : va_S (fun _ => False) s.heap s.heap [] := va_S.rf
  have hP : va_P D dd_cl [((h 0), .inr (0, [.ref (h 1), .ref (h 2), .ref (h 8)])), ((h 8), .inr (3, [.ref (h 9), .ref (h 10), .int (nI z)])), ((h 9), .inl (k 2, 120, .inl bt)), ((h 10), .inl (k 2, 20, .inl dg))] s.heap := hP
  have hl := lv_entry ([.ref (h 0), .int i]) (n := 2) (Nat.le_of_ble_eq_true rfl)
  rw [lg_entry_eq]
  generalize (lg_sl ([.ref (h 0), .int i]) ++ List.replicate (2 - (lg_sl ([.ref (h 0), .int i])).length) Slot.unset).toArray = ls at hl ⊢
  have hl : lv_has ls 2 [(0, .ref (h 0)), (1, .int i)] := hl
  refine lv_iload_n hx hb d_D_at_0 rfl (lv_at hl 1 rfl) ?_
  refine lv_if_lt (tgt := 27) hx hb d_D_at_1 (by decide) (fun c_1 => ?_) (fun c_1 => ?_)
  · refine lv_iconst (v := (-1)) hx hb d_D_at_27 (by decide) ?_
    exact W.iret (v := (-1)) hx hb hr (fun t ht hW => ⟨(-1), rfl, by unfold dd_atM; rw [if_pos c_1], ht⟩) (fun q h => by cases h) d_D_at_28
  · refine lv_iload_n hx hb d_D_at_4 rfl (lv_at hl 1 rfl) ?_
    refine lv_aload_n hx hb d_D_at_5 rfl (lv_at hl 0 rfl) ?_
    refine va_get (D := D) (ci := 0) (v := .ref (h 8)) (C := R_D) (T := F_D) (N := 3) hx hb htb i_D hown hK hP 0 rfl rfl 2 (by decide) (htb _ tb_92) (fun _ h9 => h9) rfl d_D_at_6 ?_
    refine va_getN (D := D) (ci := 3) (v := .int (nI z)) (C := R_W) (T := F_W) (N := 3) hx hb htb i_W hown hK hP 1 rfl rfl 2 (by decide) (va_Nw.use rfl hN.2.2.2.1) (fun _ h9 => h9) rfl d_D_at_9 ?_
    refine lv_icmp_ge (tgt := 27) hx hb d_D_at_12 (by decide) (fun c_2 => ?_) (fun c_2 => ?_)
    · refine lv_iconst (v := (-1)) hx hb d_D_at_27 (by decide) ?_
      exact W.iret (v := (-1)) hx hb hr (fun t ht hW => ⟨(-1), rfl, by unfold dd_atM; rw [if_neg c_1, if_pos c_2], ht⟩) (fun q h => by cases h) d_D_at_28
    · have hlt := dd_at_lt hz c_1 c_2
      refine lv_aload_n hx hb d_D_at_15 rfl (lv_at hl 0 rfl) ?_
      refine va_get (D := D) (ci := 0) (v := .ref (h 8)) (C := R_D) (T := F_D) (N := 3) hx hb htb i_D hown hK hP 0 rfl rfl 2 (by decide) (htb _ tb_92) (fun _ h9 => h9) rfl d_D_at_16 ?_
      refine va_getN (D := D) (ci := 3) (v := .ref (h 9)) (C := R_W) (T := F_W) (N := 3) hx hb htb i_W hown hK hP 1 rfl rfl 0 (by decide) (va_Nw.use rfl hN.2.2.1) (fun _ h9 => h9) rfl d_D_at_19 ?_
      refine lv_iload_n hx hb d_D_at_22 rfl (lv_at hl 1 rfl) ?_
      refine dd_bald (j := i.toNatClampNeg) hx hb hK hP 2 2 rfl rfl (dd_selfI c_1) (by omega) (by decide) d_D_at_23 ?_
      refine lv_goto (tgt := 28) hx hb d_D_at_24 (by decide) ?_
      exact W.iret (v := (bt i.toNatClampNeg)) hx hb hr (fun t ht hW => ⟨(bt i.toNatClampNeg), rfl, by unfold dd_atM; rw [if_neg c_1, if_neg c_2], ht⟩) (fun q h => by cases h) d_D_at_28
end
section
/-! rows for the makers: the clone of the constants' array -/
/-- the static that holds the constants' array, and that array -/
def dd_V (c3 : ClassId) (ad : Nat → Nat) (t : Nat) (A : Nat → Prop) (U : State) (H : Heap) : Prop := va_Z "DayDesk$Phase" "$VALUES" "[LDayDesk$Phase;" (.ref t) A U H ∧ ∃ cell : Cell, H[t]? = some cell ∧ cell.cls = c3 ∧ cell.vm ≠ .unknown ∧ (∀ c, cell.vm ≠ .statics c) ∧ cell.slots.size = 5 ∧ (∀ j, j < 5 → cell.slots[j]? = some (.ref (ad j))) ∧ ¬ A t
theorem dd_V.moved {c3 : ClassId} {ad : Nat → Nat} {t : Nat} {A : Nat → Prop} {u U : State} {H : Heap} (hvm : u.vm.Alike U.vm) (h : dd_V c3 ad t A u H) : dd_V c3 ad t A U H := ⟨va_Z.moved hvm h.1, h.2⟩
theorem dd_V.kept {c3 : ClassId} {ad : Nat → Nat} {t : Nat} {A : Nat → Prop} {U : State} {H H1 : Heap} (h : dd_V c3 ad t A U H) (hq : ∀ a : Nat, a < H.size → ¬ A a → H1[a]? = H[a]?) : dd_V c3 ad t A U H1 := by
  obtain ⟨h0, cell, h1, h2, h3, h4, h5, h6, h7⟩ := h
  exact ⟨h0.kept hq, cell, by rw [hq t (Array.getElem?_eq_some_iff.mp h1).1 h7]; exact h1, h2, h3, h4, h5, h6, h7⟩
theorem dd_V.narrow {c3 : ClassId} {ad : Nat → Nat} {t : Nat} {A B : Nat → Prop} {U : State} {H : Heap} (h : dd_V c3 ad t A U H) (hAB : ∀ q, B q → A q) : dd_V c3 ad t B U H := by
  obtain ⟨h0, cell, h1, h2, h3, h4, h5, h6, h7⟩ := h
  exact ⟨h0.narrow hAB, cell, h1, h2, h3, h4, h5, h6, fun z => h7 (hAB t z)⟩
/-- the links that only the makers use -/
def dd_L (U : State) : Prop := va_Nw (.castable "[LDayDesk$Phase;" "java/lang/Cloneable") U ∧ va_Nw (.methodLinkNest "DayDesk" 9 ⟨"DayDesk$DayClock", "<init>", "()V"⟩ "DayDesk") U ∧ va_Nw (.methodLinkNest "DayDesk" 27 ⟨"DayDesk$NumberWriter", "<init>", "()V"⟩ "DayDesk") U
theorem dd_L.warm {s U : State} (hW : s.WarmedH U.vm) (h : dd_L s) : dd_L U := ⟨va_Nw.warmC hW h.1, va_Nw.warmM hW h.2.1, va_Nw.warmM hW h.2.2⟩
theorem dd_L.same {s U : State} (hW : s.vm = U.vm) (h : dd_L s) : dd_L U := ⟨va_Nw.same rfl hW h.1, va_Nw.same rfl hW h.2.1, va_Nw.same rfl hW h.2.2⟩
theorem dd_nm3 {U : State} {c3 : ClassId} (h : va_RA U c3 (.object "DayDesk$Phase")) : U.vm.findClass "[LDayDesk$Phase;" = some c3 := by
  obtain ⟨_, _, _, _, _, h4⟩ := h
  have e : "[" ++ (FieldType.object "DayDesk$Phase").toString = "[LDayDesk$Phase;" := by decide +kernel
  rw [← e]
  exact h4
section DDCL
variable {p : Program} {l : Launch} {e : Env} {R : Room} {s : State} {m : MethodId} {args : Array Value} {below : List Frame} {meth : Method} {c : Code} {H : Heap} {locs : List Loc} {cells slots : Nat} {Q : State → Prop}
variable {cc : ByteArray} {pc : Nat} {ls : Array Slot} {rest : List Value} {D : va_G} {cl : List vw_C} {A : Nat → Prop} {tys : List (ClassId × FieldType)} {ws : va_W} {H0 : Heap}
theorem dd_clone (hexec : p.tables.exec = Jvm.exec) (hb : c.code = cc) (hml : c.maxLocals = ls.size) {own ad : String} {index : Nat} (hown : s.vm.findClass own = some m.cls)
    (hlink : (Cond.methodLink own index ⟨ad, "clone", "()Ljava/lang/Object;"⟩).before args s = true) (hsame : (Cond.sameMethod ad "java/lang/Object" "clone" "()Ljava/lang/Object;").before args s = true)
    (hnat : (Cond.native ⟨"java/lang/Object", "clone", "()Ljava/lang/Object;"⟩).before args s = true) (hinst : (Cond.instanceMethod ⟨"java/lang/Object", "clone", "()Ljava/lang/Object;"⟩).before args s = true)
    (hsel : (Cond.selects ad ⟨ad, "clone", "()Ljava/lang/Object;"⟩ ⟨"java/lang/Object", "clone", "()Ljava/lang/Object;"⟩).before args s = true) (hcl : va_Nw (.castable ad "java/lang/Cloneable") s)
    (hK : va_K D cl tys s) (hP : va_P D cl ws H) (hD : va_D A ws) (hS : va_S A H0 H locs) (hA : ∀ q, H0.size ≤ q → A q) (t0 : Nat) {cA : ClassId} {C : String} (ht : tys[t0]? = some (cA, .object C))
    {a : Nat} {cell : Cell} {f : Nat → Nat} (hcell : H[a]? = some cell) (hcls : cell.cls = cA) (hun : cell.vm ≠ .unknown) (hst : ∀ c, cell.vm ≠ .statics c) (hsz : cell.slots.size = 5) (hel : ∀ j, j < 5 → cell.slots[j]? = some (.ref (f j)))
    (hnm : s.vm.findClass ad = some cA)
    (hframes : 1 ≤ R.frames) (hlocals : (rest.map fun v => v.category).sum + 14 ≤ R.locals) (hcells : cells + 1 ≤ R.cells) (hslots : slots + 5 ≤ R.slots) (hdg : decode cc pc = .ok (.invokevirtual index, 3))
    (kk : ∀ (q : Nat) (H1 : Heap), va_P D cl (ws ++ [(q, .inl (cA, 5, .inr (.inr (.inr (.inr (fun i => some (f i)))))))]) H1 → va_D A (ws ++ [(q, .inl (cA, 5, .inr (.inr (.inr (.inr (fun i => some (f i)))))))]) → va_S A H0 H1 locs →
      W p l e R s m args below meth c H1 locs (cells + 1) (slots + 5) Q (F0 m (pc + 3) ls (.ref q :: rest))) : W p l e R s m args below meth c H locs cells slots Q (F0 m pc ls (.ref a :: rest)) := by
  have hcellE : ({ cls := cell.cls, slots := cell.slots } : Cell) = vp_cell cA (5, .inr (.inr (.inr (.inr (fun i => some (f i)))))) := by
    rw [vp_cell_q, hcls]
    have hs : cell.slots = Array.ofFn (n := 5) (fun j => va_rf (some (f j.val))) := by
      apply Array.ext
      · rw [hsz, Array.size_ofFn]
      · intro i h1 h2
        have h3 := hel i (by omega)
        rw [Array.getElem?_eq_getElem h1] at h3
        rw [Option.some.inj h3, Array.getElem_ofFn]
        rfl
    rw [hs]
    rfl
  obtain ⟨c0, t0', f1, f2, f3⟩ := Cond.castable_spec (va_Nw.use (A := args) rfl hcl)
  cases hnm.symm.trans f1
  intro T hT X
  have hcellT : T.heap[a]? = some cell := by rw [hT]; exact hcell
  obtain ⟨-, kA, hkA, comp, hkind⟩ := State.isArrayOf_alike X.warmed.alike ((hK.2 t0 _ ht).1 0 (fun _ => .null))
  obtain ⟨-, kS, hkS, compS, hkindS⟩ := (hK.2 t0 _ ht).1 0 (fun _ => .null)
  obtain ⟨vm', X', st⟩ := X.cloneArray hexec hown hlink hsame hnat hinst hsel (a := a) (cell := cell) hcellT hst hun (by rw [hcls]; exact hnm) f2 (by rw [hcls]; exact f3)
    (fun i v hv => by
      rw [hcls]
      have hk' : T.vm.classes[cA]? = some kA := hkA
      have hi : i < 5 := by rw [← hsz]; exact (Array.getElem?_eq_some_iff.mp hv).1
      have hv2 : v = .ref (f i) := Option.some.inj (hv.symm.trans (hel i hi))
      have hfit : fits (.object C) v = true := by rw [hv2]; rfl
      simpa [State.fitsSlot, State.slotType?, hk', hkind] using hfit)
    (g := F0 m pc ls (.ref a :: rest)) rfl (by rw [hml]) rfl (by rw [hb]; exact hdg) hframes (by show 2 * 0 + _ + 14 ≤ _; omega) hcells (by rw [hsz]; exact hslots) (hloader := by rw [hcls]; exact Vm.clonesLoader_of_array hkS hkindS)
  rw [hcellE, hsz] at X'
  generalize hH1 : H.push (vp_cell cA (5, .inr (.inr (.inr (.inr (fun i => some (f i))))))) = H1
  have z1 : H1.size = H.size + 1 := by rw [← hH1, Array.size_push]
  have e1 : H1[H.size]? = some (vp_cell cA (5, .inr (.inr (.inr (.inr (fun i => some (f i))))))) := by rw [← hH1, Array.getElem?_push_size]
  have o1 : ∀ q : Nat, q < H.size → H1[q]? = H[q]? := fun q hq => by rw [← hH1, Array.getElem?_push, if_neg (Nat.ne_of_lt hq)]
  have hk : ∀ (k : Nat) (y : Nat × va_E), ws[k]? = some y → H1[y.1]? = H[y.1]? := fun k y hy => o1 y.1 ((hP k y hy).lt)
  obtain ⟨t, b1, b2⟩ := kk H.size H1 ((hP.kept hk).app (fun k y hy => by
      have hz : k < 1 := (List.getElem?_eq_some_iff.mp hy).1
      rw [show k = 0 by omega] at hy
      cases hy
      exact e1)) (hD.push hP rfl (hA _ hS.1)) ⟨Nat.le_trans hS.1 (by omega), fun y h1 h2 => (o1 y (Nat.lt_of_lt_of_le h1 hS.1)).trans (hS.2.1 y h1 h2), hS.2.2⟩
    ((T.setVm vm').pushCell (vp_cell cA (5, .inr (.inr (.inr (.inr (fun i => some (f i)))))))) (by rw [← hH1, ← hT]; rfl) X'
  refine ⟨t, st t ?_, b2⟩
  rw [hcellE, hT]
  exact b1
end DDCL
/-- the start of a maker: its own new cell, the constants' array -/
def dd_PV (D : va_G) (k : Nat → ClassId) (ad : Nat → Nat) (t sz : Nat) (ws : va_W) (av : List Value) : Array Value → State → Prop := va_Pc av (fun U => U.heap.size = sz ∧ va_P D dd_cl ws U.heap ∧ va_D (fun _ => True) ws ∧ va_K D dd_cl (dd_ty k) U ∧ dd_N U ∧ dd_L U ∧ dd_V (k 3) ad t (va_A ws sz) U U.heap)
theorem dd_PV.bl {D : va_G} {k : Nat → ClassId} {ad : Nat → Nat} {t sz : Nat} {ws : va_W} {av : List Value} : FrameBlind (dd_PV D k ad t sz ws av) := fun a U g mk q => ⟨q.1, q.2.1, q.2.2.1, q.2.2.2.1, va_K.moved (u := U) (U := U.calling g mk a) (Vm.Alike.refl U.vm) q.2.2.2.2.1, dd_N.same (s := U) (U := U.calling g mk a) rfl q.2.2.2.2.2.1, dd_L.same (s := U) (U := U.calling g mk a) rfl q.2.2.2.2.2.2.1, dd_V.moved (u := U) (U := U.calling g mk a) (Vm.Alike.refl U.vm) q.2.2.2.2.2.2.2⟩
theorem dd_PV.of {D : va_G} {k : Nat → ClassId} {ad : Nat → Nat} {t : Nat} {ws : va_W} {av : List Value} {s : State} {H : Heap} {A : Nat → Prop} {locs : List Loc} (hP : va_P D dd_cl ws H) (hD : va_D A ws) (hK : va_K D dd_cl (dd_ty k) s) (hN : dd_N s) (hL : dd_L s) (hV : dd_V (k 3) ad t A s s.heap) (hS : va_S A s.heap H locs) (hF : ∀ q, va_A ws H.size q → A q) : ∀ U : State, U.heap = H → s.WarmedH U.vm → dd_PV D k ad t H.size ws av av.toArray U := fun U hU hW => ⟨rfl, by rw [hU], by rw [hU]; exact hP, hD.weaken (fun _ _ _ _ => trivial), va_K.moved hW.alike hK, hN.warm hW, hL.warm hW, by rw [hU]; exact ((hV.kept hS.2.1).narrow hF).moved hW.alike⟩
end
section
/-! contracts: the makers -/
set_option maxHeartbeats 4000000 in
set_option maxRecDepth 100000 in
theorem c_S_init (l : Launch) (D : va_G) (k : Nat → ClassId) (h : Nat → Nat) (sz : Nat) (o : Nat) : Met l y_S_init w_S_init ({ frames := 1, cells := 5, slots := 1000, locals := 12 }) (dd_PM D k sz [(o, .inr (2, [.null, .null, .null, .null, .null]))] [.ref o, .int 200]) (dd_Qv D (fun _ : Nat × Nat × Nat × Nat × Nat => True) (fun u => [(o, .inr (2, [.ref u.1, .ref u.2.1, .ref u.2.2.1, .ref u.2.2.2.1, .ref u.2.2.2.2])), (u.1, .inl (k 0, 200, .inr (.inl (fun _ => 0)))), (u.2.1, .inl (k 0, 200, .inr (.inl (fun _ => 0)))), (u.2.2.1, .inl (k 0, 200, .inr (.inl (fun _ => 0)))), (u.2.2.2.1, .inl (k 0, 200, .inr (.inl (fun _ => 0)))), (u.2.2.2.2, .inl (k 1, 200, .inl (fun _ => 0)))]) (va_A [(o, .inr (2, [.null, .null, .null, .null, .null]))] sz)) 5 1000 (va_A [(o, .inr (2, [.null, .null, .null, .null, .null]))] sz) := by
  refine Met.ofW (cc := b_S_init) (maxL := 2) (ret := none) (by decide) rfl ?_
  intro p e s m args below meth c s₁ B hml hv
  obtain ⟨rfl, hsz, hP, hD0, hK, hN⟩ := hv
  have hx := B.exec
  have hb := B.bytes
  have hr := B.returns
  have htb := dd_tb (atoms_spec (ws := w_S_init) B.pre)
  have hown : s.vm.findClass "DayDesk$Sums" = some m.cls := findClass_of_methodNamed B.named
  have hlocks := B.notSynchronized
  have hin : meth.name = "<init>" := (name_of_methodNamed B.named B.method).1
  subst hsz
  have hD := hD0.self (sz := s.heap.size)
  generalize hAe : va_A [(o, .inr (2, [.null, .null, .null, .null, .null]))] s.heap.size = A at hD ⊢
  have hA : ∀ q : Nat, s.heap.size ≤ q → A q := fun q h => by rw [← hAe]; exact Or.inr h
  have hS : va_S A s.heap s.heap [] := va_S.rf
  have hP : va_P D dd_cl [(o, .inr (2, [.null, .null, .null, .null, .null]))] s.heap := hP
  have hD : va_D A [(o, .inr (2, [.null, .null, .null, .null, .null]))] := hD
  have hl := lv_entry ([.ref o, .int 200]) (n := 2) (Nat.le_of_ble_eq_true rfl)
  rw [lg_entry_eq]
  generalize (lg_sl ([.ref o, .int 200]) ++ List.replicate (2 - (lg_sl ([.ref o, .int 200])).length) Slot.unset).toArray = ls at hl ⊢
  have hl : lv_has ls 2 [(0, .ref o), (1, .int 200)] := hl
  refine lv_aload_n hx hb d_S_init_0 rfl (lv_at hl 0 rfl) ?_
  refine W.objInit hx hb hown (htb _ tb_52) (htb _ tb_14) (htb _ tb_15) rfl (by rw [hml]; exact hl.1) rfl d_S_init_1 (Nat.le_of_ble_eq_true rfl) (Nat.le_of_ble_eq_true rfl) ?_
  refine W.eq (g2 := F0 m 4 ls []) rfl ?_
  refine lv_aload_n hx hb d_S_init_4 rfl (lv_at hl 0 rfl) ?_
  refine lv_iload_n hx hb d_S_init_5 rfl (lv_at hl 1 rfl) ?_
  refine dd_newa (atype := .long) (a0 := (200, .inr (.inl (fun _ => 0)))) hx hb (htb _ tb_69) rfl hK hP hD hS hA 0 rfl (fun _ => rfl) (by decide) (by decide) (by decide) (Nat.le_of_ble_eq_true rfl) (Nat.le_of_ble_eq_true rfl) d_S_init_6 (fun q_1 H hP hD hS => ?_)
  have hP : va_P D dd_cl [(o, .inr (2, [.null, .null, .null, .null, .null])), (q_1, .inl (k 0, 200, .inr (.inl (fun _ => 0))))] H := hP
  have hD : va_D A [(o, .inr (2, [.null, .null, .null, .null, .null])), (q_1, .inl (k 0, 200, .inr (.inl (fun _ => 0))))] := hD
  refine va_putF (D := D) (ci := 2) (v := .ref q_1) (ty := .array .long) (C := R_S) (T := F_S) (N := 5) hx hb htb i_S t_S t_S_ok n_S hown hK hP hD hS 0 rfl rfl 0 (by decide) (htb _ tb_53) (fun _ h9 => h9) rfl hin rfl (by decide +kernel) rfl rfl (Nat.le_of_ble_eq_true rfl) d_S_init_8 (fun H locs hP hD hS => ?_)
  have hP : va_P D dd_cl [(o, .inr (2, [.ref q_1, .null, .null, .null, .null])), (q_1, .inl (k 0, 200, .inr (.inl (fun _ => 0))))] H := hP
  have hD : va_D A [(o, .inr (2, [.ref q_1, .null, .null, .null, .null])), (q_1, .inl (k 0, 200, .inr (.inl (fun _ => 0))))] := hD
  refine lv_aload_n hx hb d_S_init_11 rfl (lv_at hl 0 rfl) ?_
  refine lv_iload_n hx hb d_S_init_12 rfl (lv_at hl 1 rfl) ?_
  refine dd_newa (atype := .long) (a0 := (200, .inr (.inl (fun _ => 0)))) hx hb (htb _ tb_69) rfl hK hP hD hS hA 0 rfl (fun _ => rfl) (by decide) (by decide) (by decide) (Nat.le_of_ble_eq_true rfl) (Nat.le_of_ble_eq_true rfl) d_S_init_13 (fun q_2 H hP hD hS => ?_)
  have hP : va_P D dd_cl [(o, .inr (2, [.ref q_1, .null, .null, .null, .null])), (q_1, .inl (k 0, 200, .inr (.inl (fun _ => 0)))), (q_2, .inl (k 0, 200, .inr (.inl (fun _ => 0))))] H := hP
  have hD : va_D A [(o, .inr (2, [.ref q_1, .null, .null, .null, .null])), (q_1, .inl (k 0, 200, .inr (.inl (fun _ => 0)))), (q_2, .inl (k 0, 200, .inr (.inl (fun _ => 0))))] := hD
  refine va_putF (D := D) (ci := 2) (v := .ref q_2) (ty := .array .long) (C := R_S) (T := F_S) (N := 5) hx hb htb i_S t_S t_S_ok n_S hown hK hP hD hS 0 rfl rfl 1 (by decide) (htb _ tb_54) (fun _ h9 => h9) rfl hin rfl (by decide +kernel) rfl rfl (Nat.le_of_ble_eq_true rfl) d_S_init_15 (fun H locs hP hD hS => ?_)
  have hP : va_P D dd_cl [(o, .inr (2, [.ref q_1, .ref q_2, .null, .null, .null])), (q_1, .inl (k 0, 200, .inr (.inl (fun _ => 0)))), (q_2, .inl (k 0, 200, .inr (.inl (fun _ => 0))))] H := hP
  have hD : va_D A [(o, .inr (2, [.ref q_1, .ref q_2, .null, .null, .null])), (q_1, .inl (k 0, 200, .inr (.inl (fun _ => 0)))), (q_2, .inl (k 0, 200, .inr (.inl (fun _ => 0))))] := hD
  refine lv_aload_n hx hb d_S_init_18 rfl (lv_at hl 0 rfl) ?_
  refine lv_iload_n hx hb d_S_init_19 rfl (lv_at hl 1 rfl) ?_
  refine dd_newa (atype := .long) (a0 := (200, .inr (.inl (fun _ => 0)))) hx hb (htb _ tb_69) rfl hK hP hD hS hA 0 rfl (fun _ => rfl) (by decide) (by decide) (by decide) (Nat.le_of_ble_eq_true rfl) (Nat.le_of_ble_eq_true rfl) d_S_init_20 (fun q_3 H hP hD hS => ?_)
  have hP : va_P D dd_cl [(o, .inr (2, [.ref q_1, .ref q_2, .null, .null, .null])), (q_1, .inl (k 0, 200, .inr (.inl (fun _ => 0)))), (q_2, .inl (k 0, 200, .inr (.inl (fun _ => 0)))), (q_3, .inl (k 0, 200, .inr (.inl (fun _ => 0))))] H := hP
  have hD : va_D A [(o, .inr (2, [.ref q_1, .ref q_2, .null, .null, .null])), (q_1, .inl (k 0, 200, .inr (.inl (fun _ => 0)))), (q_2, .inl (k 0, 200, .inr (.inl (fun _ => 0)))), (q_3, .inl (k 0, 200, .inr (.inl (fun _ => 0))))] := hD
  refine va_putF (D := D) (ci := 2) (v := .ref q_3) (ty := .array .long) (C := R_S) (T := F_S) (N := 5) hx hb htb i_S t_S t_S_ok n_S hown hK hP hD hS 0 rfl rfl 2 (by decide) (htb _ tb_55) (fun _ h9 => h9) rfl hin rfl (by decide +kernel) rfl rfl (Nat.le_of_ble_eq_true rfl) d_S_init_22 (fun H locs hP hD hS => ?_)
  have hP : va_P D dd_cl [(o, .inr (2, [.ref q_1, .ref q_2, .ref q_3, .null, .null])), (q_1, .inl (k 0, 200, .inr (.inl (fun _ => 0)))), (q_2, .inl (k 0, 200, .inr (.inl (fun _ => 0)))), (q_3, .inl (k 0, 200, .inr (.inl (fun _ => 0))))] H := hP
  have hD : va_D A [(o, .inr (2, [.ref q_1, .ref q_2, .ref q_3, .null, .null])), (q_1, .inl (k 0, 200, .inr (.inl (fun _ => 0)))), (q_2, .inl (k 0, 200, .inr (.inl (fun _ => 0)))), (q_3, .inl (k 0, 200, .inr (.inl (fun _ => 0))))] := hD
  refine lv_aload_n hx hb d_S_init_25 rfl (lv_at hl 0 rfl) ?_
  refine lv_iload_n hx hb d_S_init_26 rfl (lv_at hl 1 rfl) ?_
  refine dd_newa (atype := .long) (a0 := (200, .inr (.inl (fun _ => 0)))) hx hb (htb _ tb_69) rfl hK hP hD hS hA 0 rfl (fun _ => rfl) (by decide) (by decide) (by decide) (Nat.le_of_ble_eq_true rfl) (Nat.le_of_ble_eq_true rfl) d_S_init_27 (fun q_4 H hP hD hS => ?_)
  have hP : va_P D dd_cl [(o, .inr (2, [.ref q_1, .ref q_2, .ref q_3, .null, .null])), (q_1, .inl (k 0, 200, .inr (.inl (fun _ => 0)))), (q_2, .inl (k 0, 200, .inr (.inl (fun _ => 0)))), (q_3, .inl (k 0, 200, .inr (.inl (fun _ => 0)))), (q_4, .inl (k 0, 200, .inr (.inl (fun _ => 0))))] H := hP
  have hD : va_D A [(o, .inr (2, [.ref q_1, .ref q_2, .ref q_3, .null, .null])), (q_1, .inl (k 0, 200, .inr (.inl (fun _ => 0)))), (q_2, .inl (k 0, 200, .inr (.inl (fun _ => 0)))), (q_3, .inl (k 0, 200, .inr (.inl (fun _ => 0)))), (q_4, .inl (k 0, 200, .inr (.inl (fun _ => 0))))] := hD
  refine va_putF (D := D) (ci := 2) (v := .ref q_4) (ty := .array .long) (C := R_S) (T := F_S) (N := 5) hx hb htb i_S t_S t_S_ok n_S hown hK hP hD hS 0 rfl rfl 3 (by decide) (htb _ tb_56) (fun _ h9 => h9) rfl hin rfl (by decide +kernel) rfl rfl (Nat.le_of_ble_eq_true rfl) d_S_init_29 (fun H locs hP hD hS => ?_)
  have hP : va_P D dd_cl [(o, .inr (2, [.ref q_1, .ref q_2, .ref q_3, .ref q_4, .null])), (q_1, .inl (k 0, 200, .inr (.inl (fun _ => 0)))), (q_2, .inl (k 0, 200, .inr (.inl (fun _ => 0)))), (q_3, .inl (k 0, 200, .inr (.inl (fun _ => 0)))), (q_4, .inl (k 0, 200, .inr (.inl (fun _ => 0))))] H := hP
  have hD : va_D A [(o, .inr (2, [.ref q_1, .ref q_2, .ref q_3, .ref q_4, .null])), (q_1, .inl (k 0, 200, .inr (.inl (fun _ => 0)))), (q_2, .inl (k 0, 200, .inr (.inl (fun _ => 0)))), (q_3, .inl (k 0, 200, .inr (.inl (fun _ => 0)))), (q_4, .inl (k 0, 200, .inr (.inl (fun _ => 0))))] := hD
  refine lv_aload_n hx hb d_S_init_32 rfl (lv_at hl 0 rfl) ?_
  refine lv_iload_n hx hb d_S_init_33 rfl (lv_at hl 1 rfl) ?_
  refine dd_newa (atype := .int) (a0 := (200, .inl (fun _ => 0))) hx hb (htb _ tb_70) rfl hK hP hD hS hA 1 rfl (fun _ => rfl) (by decide) (by decide) (by decide) (Nat.le_of_ble_eq_true rfl) (Nat.le_of_ble_eq_true rfl) d_S_init_34 (fun q_5 H hP hD hS => ?_)
  have hP : va_P D dd_cl [(o, .inr (2, [.ref q_1, .ref q_2, .ref q_3, .ref q_4, .null])), (q_1, .inl (k 0, 200, .inr (.inl (fun _ => 0)))), (q_2, .inl (k 0, 200, .inr (.inl (fun _ => 0)))), (q_3, .inl (k 0, 200, .inr (.inl (fun _ => 0)))), (q_4, .inl (k 0, 200, .inr (.inl (fun _ => 0)))), (q_5, .inl (k 1, 200, .inl (fun _ => 0)))] H := hP
  have hD : va_D A [(o, .inr (2, [.ref q_1, .ref q_2, .ref q_3, .ref q_4, .null])), (q_1, .inl (k 0, 200, .inr (.inl (fun _ => 0)))), (q_2, .inl (k 0, 200, .inr (.inl (fun _ => 0)))), (q_3, .inl (k 0, 200, .inr (.inl (fun _ => 0)))), (q_4, .inl (k 0, 200, .inr (.inl (fun _ => 0)))), (q_5, .inl (k 1, 200, .inl (fun _ => 0)))] := hD
  refine va_putF (D := D) (ci := 2) (v := .ref q_5) (ty := .array .int) (C := R_S) (T := F_S) (N := 5) hx hb htb i_S t_S t_S_ok n_S hown hK hP hD hS 0 rfl rfl 4 (by decide) (htb _ tb_57) (fun _ h9 => h9) rfl hin rfl (by decide +kernel) rfl rfl (Nat.le_of_ble_eq_true rfl) d_S_init_36 (fun H locs hP hD hS => ?_)
  have hP : va_P D dd_cl [(o, .inr (2, [.ref q_1, .ref q_2, .ref q_3, .ref q_4, .ref q_5])), (q_1, .inl (k 0, 200, .inr (.inl (fun _ => 0)))), (q_2, .inl (k 0, 200, .inr (.inl (fun _ => 0)))), (q_3, .inl (k 0, 200, .inr (.inl (fun _ => 0)))), (q_4, .inl (k 0, 200, .inr (.inl (fun _ => 0)))), (q_5, .inl (k 1, 200, .inl (fun _ => 0)))] H := hP
  have hD : va_D A [(o, .inr (2, [.ref q_1, .ref q_2, .ref q_3, .ref q_4, .ref q_5])), (q_1, .inl (k 0, 200, .inr (.inl (fun _ => 0)))), (q_2, .inl (k 0, 200, .inr (.inl (fun _ => 0)))), (q_3, .inl (k 0, 200, .inr (.inl (fun _ => 0)))), (q_4, .inl (k 0, 200, .inr (.inl (fun _ => 0)))), (q_5, .inl (k 1, 200, .inl (fun _ => 0)))] := hD
  refine W.widen (k := 5) (n := 1000) (Nat.le_of_ble_eq_true rfl) (Nat.le_of_ble_eq_true rfl) ?_
  exact W.vret hx hb hr (fun t ht hW => ⟨⟨(q_1, q_2, q_3, q_4, q_5), rfl, trivial, by rw [ht]; exact hP, hD⟩, hS.F ht⟩) hS.2.2 d_S_init_39
set_option maxHeartbeats 4000000 in
set_option maxRecDepth 100000 in
theorem c_W_init (l : Launch) (D : va_G) (k : Nat → ClassId) (h : Nat → Nat) (sz : Nat) (o : Nat) : Met l y_W_init w_W_init ({ frames := 1, cells := 2, slots := 140, locals := 12 }) (dd_PM D k sz [(o, .inr (3, [.null, .null, .int 0]))] [.ref o]) (dd_Qv D (fun _ : Nat × Nat => True) (fun u => [(o, .inr (3, [.ref u.1, .ref u.2, .int 0])), (u.1, .inl (k 2, 120, .inl (fun _ => 0))), (u.2, .inl (k 2, 20, .inl (fun _ => 0)))]) (va_A [(o, .inr (3, [.null, .null, .int 0]))] sz)) 2 140 (va_A [(o, .inr (3, [.null, .null, .int 0]))] sz) := by
  refine Met.ofW (cc := b_W_init) (maxL := 1) (ret := none) (by decide) rfl ?_
  intro p e s m args below meth c s₁ B hml hv
  obtain ⟨rfl, hsz, hP, hD0, hK, hN⟩ := hv
  have hx := B.exec
  have hb := B.bytes
  have hr := B.returns
  have htb := dd_tb (atoms_spec (ws := w_W_init) B.pre)
  have hown : s.vm.findClass "DayDesk$NumberWriter" = some m.cls := findClass_of_methodNamed B.named
  have hlocks := B.notSynchronized
  have hin : meth.name = "<init>" := (name_of_methodNamed B.named B.method).1
  subst hsz
  have hD := hD0.self (sz := s.heap.size)
  generalize hAe : va_A [(o, .inr (3, [.null, .null, .int 0]))] s.heap.size = A at hD ⊢
  have hA : ∀ q : Nat, s.heap.size ≤ q → A q := fun q h => by rw [← hAe]; exact Or.inr h
  have hS : va_S A s.heap s.heap [] := va_S.rf
  have hP : va_P D dd_cl [(o, .inr (3, [.null, .null, .int 0]))] s.heap := hP
  have hD : va_D A [(o, .inr (3, [.null, .null, .int 0]))] := hD
  have hl := lv_entry ([.ref o]) (n := 1) (Nat.le_of_ble_eq_true rfl)
  rw [lg_entry_eq]
  generalize (lg_sl ([.ref o]) ++ List.replicate (1 - (lg_sl ([.ref o])).length) Slot.unset).toArray = ls at hl ⊢
  have hl : lv_has ls 1 [(0, .ref o)] := hl
  refine lv_aload_n hx hb d_W_init_0 rfl (lv_at hl 0 rfl) ?_
  refine W.objInit hx hb hown (htb _ tb_76) (htb _ tb_14) (htb _ tb_15) rfl (by rw [hml]; exact hl.1) rfl d_W_init_1 (Nat.le_of_ble_eq_true rfl) (Nat.le_of_ble_eq_true rfl) ?_
  refine W.eq (g2 := F0 m 4 ls []) rfl ?_
  refine lv_aload_n hx hb d_W_init_4 rfl (lv_at hl 0 rfl) ?_
  refine lv_bipush (v := 120) hx hb d_W_init_5 (by decide) ?_
  refine dd_newa (atype := .byte) (a0 := (120, .inl (fun _ => 0))) hx hb (htb _ tb_89) rfl hK hP hD hS hA 2 rfl (fun _ => rfl) (by decide) (by decide) (by decide) (Nat.le_of_ble_eq_true rfl) (Nat.le_of_ble_eq_true rfl) d_W_init_7 (fun q_1 H hP hD hS => ?_)
  have hP : va_P D dd_cl [(o, .inr (3, [.null, .null, .int 0])), (q_1, .inl (k 2, 120, .inl (fun _ => 0)))] H := hP
  have hD : va_D A [(o, .inr (3, [.null, .null, .int 0])), (q_1, .inl (k 2, 120, .inl (fun _ => 0)))] := hD
  refine va_putF (D := D) (ci := 3) (v := .ref q_1) (ty := .array .byte) (C := R_W) (T := F_W) (N := 3) hx hb htb i_W t_W t_W_ok n_W hown hK hP hD hS 0 rfl rfl 0 (by decide) (htb _ tb_77) (fun _ h9 => h9) rfl hin rfl (by decide +kernel) rfl rfl (Nat.le_of_ble_eq_true rfl) d_W_init_9 (fun H locs hP hD hS => ?_)
  have hP : va_P D dd_cl [(o, .inr (3, [.ref q_1, .null, .int 0])), (q_1, .inl (k 2, 120, .inl (fun _ => 0)))] H := hP
  have hD : va_D A [(o, .inr (3, [.ref q_1, .null, .int 0])), (q_1, .inl (k 2, 120, .inl (fun _ => 0)))] := hD
  refine lv_aload_n hx hb d_W_init_12 rfl (lv_at hl 0 rfl) ?_
  refine lv_bipush (v := 20) hx hb d_W_init_13 (by decide) ?_
  refine dd_newa (atype := .byte) (a0 := (20, .inl (fun _ => 0))) hx hb (htb _ tb_89) rfl hK hP hD hS hA 2 rfl (fun _ => rfl) (by decide) (by decide) (by decide) (Nat.le_of_ble_eq_true rfl) (Nat.le_of_ble_eq_true rfl) d_W_init_15 (fun q_2 H hP hD hS => ?_)
  have hP : va_P D dd_cl [(o, .inr (3, [.ref q_1, .null, .int 0])), (q_1, .inl (k 2, 120, .inl (fun _ => 0))), (q_2, .inl (k 2, 20, .inl (fun _ => 0)))] H := hP
  have hD : va_D A [(o, .inr (3, [.ref q_1, .null, .int 0])), (q_1, .inl (k 2, 120, .inl (fun _ => 0))), (q_2, .inl (k 2, 20, .inl (fun _ => 0)))] := hD
  refine va_putF (D := D) (ci := 3) (v := .ref q_2) (ty := .array .byte) (C := R_W) (T := F_W) (N := 3) hx hb htb i_W t_W t_W_ok n_W hown hK hP hD hS 0 rfl rfl 1 (by decide) (htb _ tb_79) (fun _ h9 => h9) rfl hin rfl (by decide +kernel) rfl rfl (Nat.le_of_ble_eq_true rfl) d_W_init_17 (fun H locs hP hD hS => ?_)
  have hP : va_P D dd_cl [(o, .inr (3, [.ref q_1, .ref q_2, .int 0])), (q_1, .inl (k 2, 120, .inl (fun _ => 0))), (q_2, .inl (k 2, 20, .inl (fun _ => 0)))] H := hP
  have hD : va_D A [(o, .inr (3, [.ref q_1, .ref q_2, .int 0])), (q_1, .inl (k 2, 120, .inl (fun _ => 0))), (q_2, .inl (k 2, 20, .inl (fun _ => 0)))] := hD
  refine W.widen (k := 2) (n := 140) (Nat.le_of_ble_eq_true rfl) (Nat.le_of_ble_eq_true rfl) ?_
  exact W.vret hx hb hr (fun t ht hW => ⟨⟨(q_1, q_2), rfl, trivial, by rw [ht]; exact hP, hD⟩, hS.F ht⟩) hS.2.2 d_W_init_20
set_option maxHeartbeats 4000000 in
set_option maxRecDepth 100000 in
theorem c_M_init (l : Launch) (D : va_G) (k : Nat → ClassId) (h : Nat → Nat) (sz : Nat) (o : Nat) : Met l y_M_init w_M_init ({ frames := 1, cells := 4, slots := 1360, locals := 12 }) (dd_PM D k sz [(o, .inr (4, [.long 0, .null, .int 0, .null, .null, .int 0, .null]))] [.ref o]) (dd_Qv D (fun _ : Nat × Nat × Nat × Nat => True) (fun u => [(o, .inr (4, [.long 0, .ref u.1, .int 0, .ref u.2.1, .ref u.2.2.1, .int 0, .ref u.2.2.2])), (u.1, .inl (k 0, 200, .inr (.inl (fun _ => 0)))), (u.2.1, .inl (k 1, 520, .inl (fun _ => 0))), (u.2.2.1, .inl (k 0, 520, .inr (.inl (fun _ => 0)))), (u.2.2.2, .inl (k 1, 120, .inl (fun _ => 0)))]) (va_A [(o, .inr (4, [.long 0, .null, .int 0, .null, .null, .int 0, .null]))] sz)) 4 1360 (va_A [(o, .inr (4, [.long 0, .null, .int 0, .null, .null, .int 0, .null]))] sz) := by
  refine Met.ofW (cc := b_M_init) (maxL := 1) (ret := none) (by decide) rfl ?_
  intro p e s m args below meth c s₁ B hml hv
  obtain ⟨rfl, hsz, hP, hD0, hK, hN⟩ := hv
  have hx := B.exec
  have hb := B.bytes
  have hr := B.returns
  have htb := dd_tb (atoms_spec (ws := w_M_init) B.pre)
  have hown : s.vm.findClass "DayDeskModel" = some m.cls := findClass_of_methodNamed B.named
  have hlocks := B.notSynchronized
  have hin : meth.name = "<init>" := (name_of_methodNamed B.named B.method).1
  subst hsz
  have hD := hD0.self (sz := s.heap.size)
  generalize hAe : va_A [(o, .inr (4, [.long 0, .null, .int 0, .null, .null, .int 0, .null]))] s.heap.size = A at hD ⊢
  have hA : ∀ q : Nat, s.heap.size ≤ q → A q := fun q h => by rw [← hAe]; exact Or.inr h
  have hS : va_S A s.heap s.heap [] := va_S.rf
  have hP : va_P D dd_cl [(o, .inr (4, [.long 0, .null, .int 0, .null, .null, .int 0, .null]))] s.heap := hP
  have hD : va_D A [(o, .inr (4, [.long 0, .null, .int 0, .null, .null, .int 0, .null]))] := hD
  have hl := lv_entry ([.ref o]) (n := 1) (Nat.le_of_ble_eq_true rfl)
  rw [lg_entry_eq]
  generalize (lg_sl ([.ref o]) ++ List.replicate (1 - (lg_sl ([.ref o])).length) Slot.unset).toArray = ls at hl ⊢
  have hl : lv_has ls 1 [(0, .ref o)] := hl
  refine lv_aload_n hx hb d_M_init_0 rfl (lv_at hl 0 rfl) ?_
  refine W.objInit hx hb hown (htb _ tb_213) (htb _ tb_14) (htb _ tb_15) rfl (by rw [hml]; exact hl.1) rfl d_M_init_1 (Nat.le_of_ble_eq_true rfl) (Nat.le_of_ble_eq_true rfl) ?_
  refine W.eq (g2 := F0 m 4 ls []) rfl ?_
  refine lv_aload_n hx hb d_M_init_4 rfl (lv_at hl 0 rfl) ?_
  refine lv_sipush (v := 200) hx hb d_M_init_5 (by decide) ?_
  refine dd_newa (atype := .long) (a0 := (200, .inr (.inl (fun _ => 0)))) hx hb (htb _ tb_69) rfl hK hP hD hS hA 0 rfl (fun _ => rfl) (by decide) (by decide) (by decide) (Nat.le_of_ble_eq_true rfl) (Nat.le_of_ble_eq_true rfl) d_M_init_8 (fun q_1 H hP hD hS => ?_)
  have hP : va_P D dd_cl [(o, .inr (4, [.long 0, .null, .int 0, .null, .null, .int 0, .null])), (q_1, .inl (k 0, 200, .inr (.inl (fun _ => 0))))] H := hP
  have hD : va_D A [(o, .inr (4, [.long 0, .null, .int 0, .null, .null, .int 0, .null])), (q_1, .inl (k 0, 200, .inr (.inl (fun _ => 0))))] := hD
  refine va_putF (D := D) (ci := 4) (v := .ref q_1) (ty := .array .long) (C := R_M) (T := F_M) (N := 7) hx hb htb i_M t_M t_M_ok n_M hown hK hP hD hS 0 rfl rfl 1 (by decide) (htb _ tb_215) (fun _ h9 => h9) rfl hin rfl (by decide +kernel) rfl rfl (Nat.le_of_ble_eq_true rfl) d_M_init_10 (fun H locs hP hD hS => ?_)
  have hP : va_P D dd_cl [(o, .inr (4, [.long 0, .ref q_1, .int 0, .null, .null, .int 0, .null])), (q_1, .inl (k 0, 200, .inr (.inl (fun _ => 0))))] H := hP
  have hD : va_D A [(o, .inr (4, [.long 0, .ref q_1, .int 0, .null, .null, .int 0, .null])), (q_1, .inl (k 0, 200, .inr (.inl (fun _ => 0))))] := hD
  refine lv_aload_n hx hb d_M_init_13 rfl (lv_at hl 0 rfl) ?_
  refine lv_sipush (v := 520) hx hb d_M_init_14 (by decide) ?_
  refine dd_newa (atype := .int) (a0 := (520, .inl (fun _ => 0))) hx hb (htb _ tb_70) rfl hK hP hD hS hA 1 rfl (fun _ => rfl) (by decide) (by decide) (by decide) (Nat.le_of_ble_eq_true rfl) (Nat.le_of_ble_eq_true rfl) d_M_init_17 (fun q_2 H hP hD hS => ?_)
  have hP : va_P D dd_cl [(o, .inr (4, [.long 0, .ref q_1, .int 0, .null, .null, .int 0, .null])), (q_1, .inl (k 0, 200, .inr (.inl (fun _ => 0)))), (q_2, .inl (k 1, 520, .inl (fun _ => 0)))] H := hP
  have hD : va_D A [(o, .inr (4, [.long 0, .ref q_1, .int 0, .null, .null, .int 0, .null])), (q_1, .inl (k 0, 200, .inr (.inl (fun _ => 0)))), (q_2, .inl (k 1, 520, .inl (fun _ => 0)))] := hD
  refine va_putF (D := D) (ci := 4) (v := .ref q_2) (ty := .array .int) (C := R_M) (T := F_M) (N := 7) hx hb htb i_M t_M t_M_ok n_M hown hK hP hD hS 0 rfl rfl 3 (by decide) (htb _ tb_217) (fun _ h9 => h9) rfl hin rfl (by decide +kernel) rfl rfl (Nat.le_of_ble_eq_true rfl) d_M_init_19 (fun H locs hP hD hS => ?_)
  have hP : va_P D dd_cl [(o, .inr (4, [.long 0, .ref q_1, .int 0, .ref q_2, .null, .int 0, .null])), (q_1, .inl (k 0, 200, .inr (.inl (fun _ => 0)))), (q_2, .inl (k 1, 520, .inl (fun _ => 0)))] H := hP
  have hD : va_D A [(o, .inr (4, [.long 0, .ref q_1, .int 0, .ref q_2, .null, .int 0, .null])), (q_1, .inl (k 0, 200, .inr (.inl (fun _ => 0)))), (q_2, .inl (k 1, 520, .inl (fun _ => 0)))] := hD
  refine lv_aload_n hx hb d_M_init_22 rfl (lv_at hl 0 rfl) ?_
  refine lv_sipush (v := 520) hx hb d_M_init_23 (by decide) ?_
  refine dd_newa (atype := .long) (a0 := (520, .inr (.inl (fun _ => 0)))) hx hb (htb _ tb_69) rfl hK hP hD hS hA 0 rfl (fun _ => rfl) (by decide) (by decide) (by decide) (Nat.le_of_ble_eq_true rfl) (Nat.le_of_ble_eq_true rfl) d_M_init_26 (fun q_3 H hP hD hS => ?_)
  have hP : va_P D dd_cl [(o, .inr (4, [.long 0, .ref q_1, .int 0, .ref q_2, .null, .int 0, .null])), (q_1, .inl (k 0, 200, .inr (.inl (fun _ => 0)))), (q_2, .inl (k 1, 520, .inl (fun _ => 0))), (q_3, .inl (k 0, 520, .inr (.inl (fun _ => 0))))] H := hP
  have hD : va_D A [(o, .inr (4, [.long 0, .ref q_1, .int 0, .ref q_2, .null, .int 0, .null])), (q_1, .inl (k 0, 200, .inr (.inl (fun _ => 0)))), (q_2, .inl (k 1, 520, .inl (fun _ => 0))), (q_3, .inl (k 0, 520, .inr (.inl (fun _ => 0))))] := hD
  refine va_putF (D := D) (ci := 4) (v := .ref q_3) (ty := .array .long) (C := R_M) (T := F_M) (N := 7) hx hb htb i_M t_M t_M_ok n_M hown hK hP hD hS 0 rfl rfl 4 (by decide) (htb _ tb_218) (fun _ h9 => h9) rfl hin rfl (by decide +kernel) rfl rfl (Nat.le_of_ble_eq_true rfl) d_M_init_28 (fun H locs hP hD hS => ?_)
  have hP : va_P D dd_cl [(o, .inr (4, [.long 0, .ref q_1, .int 0, .ref q_2, .ref q_3, .int 0, .null])), (q_1, .inl (k 0, 200, .inr (.inl (fun _ => 0)))), (q_2, .inl (k 1, 520, .inl (fun _ => 0))), (q_3, .inl (k 0, 520, .inr (.inl (fun _ => 0))))] H := hP
  have hD : va_D A [(o, .inr (4, [.long 0, .ref q_1, .int 0, .ref q_2, .ref q_3, .int 0, .null])), (q_1, .inl (k 0, 200, .inr (.inl (fun _ => 0)))), (q_2, .inl (k 1, 520, .inl (fun _ => 0))), (q_3, .inl (k 0, 520, .inr (.inl (fun _ => 0))))] := hD
  refine lv_aload_n hx hb d_M_init_31 rfl (lv_at hl 0 rfl) ?_
  refine lv_bipush (v := 120) hx hb d_M_init_32 (by decide) ?_
  refine dd_newa (atype := .int) (a0 := (120, .inl (fun _ => 0))) hx hb (htb _ tb_70) rfl hK hP hD hS hA 1 rfl (fun _ => rfl) (by decide) (by decide) (by decide) (Nat.le_of_ble_eq_true rfl) (Nat.le_of_ble_eq_true rfl) d_M_init_34 (fun q_4 H hP hD hS => ?_)
  have hP : va_P D dd_cl [(o, .inr (4, [.long 0, .ref q_1, .int 0, .ref q_2, .ref q_3, .int 0, .null])), (q_1, .inl (k 0, 200, .inr (.inl (fun _ => 0)))), (q_2, .inl (k 1, 520, .inl (fun _ => 0))), (q_3, .inl (k 0, 520, .inr (.inl (fun _ => 0)))), (q_4, .inl (k 1, 120, .inl (fun _ => 0)))] H := hP
  have hD : va_D A [(o, .inr (4, [.long 0, .ref q_1, .int 0, .ref q_2, .ref q_3, .int 0, .null])), (q_1, .inl (k 0, 200, .inr (.inl (fun _ => 0)))), (q_2, .inl (k 1, 520, .inl (fun _ => 0))), (q_3, .inl (k 0, 520, .inr (.inl (fun _ => 0)))), (q_4, .inl (k 1, 120, .inl (fun _ => 0)))] := hD
  refine va_putF (D := D) (ci := 4) (v := .ref q_4) (ty := .array .int) (C := R_M) (T := F_M) (N := 7) hx hb htb i_M t_M t_M_ok n_M hown hK hP hD hS 0 rfl rfl 6 (by decide) (htb _ tb_220) (fun _ h9 => h9) rfl hin rfl (by decide +kernel) rfl rfl (Nat.le_of_ble_eq_true rfl) d_M_init_36 (fun H locs hP hD hS => ?_)
  have hP : va_P D dd_cl [(o, .inr (4, [.long 0, .ref q_1, .int 0, .ref q_2, .ref q_3, .int 0, .ref q_4])), (q_1, .inl (k 0, 200, .inr (.inl (fun _ => 0)))), (q_2, .inl (k 1, 520, .inl (fun _ => 0))), (q_3, .inl (k 0, 520, .inr (.inl (fun _ => 0)))), (q_4, .inl (k 1, 120, .inl (fun _ => 0)))] H := hP
  have hD : va_D A [(o, .inr (4, [.long 0, .ref q_1, .int 0, .ref q_2, .ref q_3, .int 0, .ref q_4])), (q_1, .inl (k 0, 200, .inr (.inl (fun _ => 0)))), (q_2, .inl (k 1, 520, .inl (fun _ => 0))), (q_3, .inl (k 0, 520, .inr (.inl (fun _ => 0)))), (q_4, .inl (k 1, 120, .inl (fun _ => 0)))] := hD
  refine W.widen (k := 4) (n := 1360) (Nat.le_of_ble_eq_true rfl) (Nat.le_of_ble_eq_true rfl) ?_
  exact W.vret hx hb hr (fun t ht hW => ⟨⟨(q_1, q_2, q_3, q_4), rfl, trivial, by rw [ht]; exact hP, hD⟩, hS.F ht⟩) hS.2.2 d_M_init_39
set_option maxHeartbeats 4000000 in
set_option maxRecDepth 100000 in
theorem c_P_values (l : Launch) (D : va_G) (k : Nat → ClassId) (ad : Nat → Nat) (tv sz : Nat) : Met l y_P_values w_P_values ({ frames := 1, cells := 1, slots := 5, locals := 14 }) (dd_PV D k ad tv sz [] []) (va_Qr (fun _ : Unit => True) (fun _ a t => va_P D dd_cl [(a, .inl (k 3, 5, .inr (.inr (.inr (.inr (fun i => some (ad i)))))))] t.heap ∧ va_D (va_A [] sz) [(a, .inl (k 3, 5, .inr (.inr (.inr (.inr (fun i => some (ad i)))))))]) (va_A [] sz)) 1 5 (va_A [] sz) := by
  refine Met.ofW (cc := b_P_values) (maxL := 0) (ret := (some (FieldType.array (FieldType.object "DayDesk$Phase")))) (by decide) rfl ?_
  intro p e s m args below meth c s₁ B hml hv
  obtain ⟨rfl, hsz, hP, hD0, hK, hN, hL, hV⟩ := hv
  have hx := B.exec
  have hb := B.bytes
  have hr := B.returns
  have htb := dd_tb (atoms_spec (ws := w_P_values) B.pre)
  have hown : s.vm.findClass "DayDesk$Phase" = some m.cls := findClass_of_methodNamed B.named
  have hlocks := B.notSynchronized
  subst hsz
  have hD := hD0.self (sz := s.heap.size)
  generalize hAe : va_A [] s.heap.size = A at hD hV ⊢
  have hA : ∀ q : Nat, s.heap.size ≤ q → A q := fun q h => by rw [← hAe]; exact Or.inr h
  have hS : va_S A s.heap s.heap [] := va_S.rf
  have hP : va_P D dd_cl [] s.heap := hP
  have hD : va_D A [] := hD
  have hl := lv_entry ([]) (n := 0) (Nat.le_of_ble_eq_true rfl)
  rw [lg_entry_eq]
  generalize (lg_sl ([]) ++ List.replicate (0 - (lg_sl ([])).length) Slot.unset).toArray = ls at hl ⊢
  have hl : lv_has ls 0 [] := hl
  obtain ⟨hZ, cell, g1, g2, g3, g4, g5, g6, g7⟩ := hV
  have hnm := dd_nm3 (hK.2 3 _ rfl).2
  refine va_gets hx hb hZ hS hown (htb _ tb_25) (fun _ h9 => h9) d_P_values_0 ?_
  refine dd_clone (f := ad) hx hb (hml.trans hl.1.symm) hown (htb _ tb_27) (htb _ tb_28) (htb _ tb_29) (htb _ tb_30) (htb _ tb_31) hL.1 hK hP hD hS hA 3 rfl g1 g2 g3 g4 g5 g6 hnm (Nat.le_of_ble_eq_true rfl) (Nat.le_of_ble_eq_true rfl) (Nat.le_of_ble_eq_true rfl) (Nat.le_of_ble_eq_true rfl) d_P_values_3 (fun q1 H hP hD hS => ?_)
  have hP : va_P D dd_cl [(q1, .inl (k 3, 5, .inr (.inr (.inr (.inr (fun i => some (ad i)))))))] H := hP
  have hD : va_D A [(q1, .inl (k 3, 5, .inr (.inr (.inr (.inr (fun i => some (ad i)))))))] := hD
  refine va_castA hx hb hown (htb _ tb_34) hP 0 rfl hnm d_P_values_6 ?_
  refine W.widen (k := 1) (n := 5) (Nat.le_of_ble_eq_true rfl) (Nat.le_of_ble_eq_true rfl) ?_
  exact W.aret hx hb hr (Or.inr ⟨_, rfl⟩) (Or.inr ⟨_, rfl⟩) (fun t ht hW => ⟨⟨(), q1, rfl, trivial, by rw [ht]; exact hP, hD⟩, hS.F ht⟩) hS.2.2 d_P_values_9
set_option maxHeartbeats 4000000 in
set_option maxRecDepth 100000 in
theorem c_C_init (l : Launch) (D : va_G) (k : Nat → ClassId) (ad : Nat → Nat) (tv sz : Nat) (o : Nat) : Met l y_C_init w_C_init ({ frames := 2, cells := 1, slots := 5, locals := 33 }) (dd_PV D k ad tv sz [(o, .inr (1, [.null, .int 0, .int 0]))] [.ref o]) (dd_Qv D (fun _ : Nat => True) (fun u => [(o, .inr (1, [.ref u, .int 0, .int 0])), (u, .inl (k 3, 5, .inr (.inr (.inr (.inr (fun i => some (ad i)))))))]) (va_A [(o, .inr (1, [.null, .int 0, .int 0]))] sz)) 1 5 (va_A [(o, .inr (1, [.null, .int 0, .int 0]))] sz) := by
  refine Met.ofW (cc := b_C_init) (maxL := 1) (ret := none) (by decide) rfl ?_
  intro p e s m args below meth c s₁ B hml hv
  obtain ⟨rfl, hsz, hP, hD0, hK, hN, hL, hV⟩ := hv
  have hx := B.exec
  have hb := B.bytes
  have hr := B.returns
  have htb := dd_tb (atoms_spec (ws := w_C_init) B.pre)
  have hown : s.vm.findClass "DayDesk$DayClock" = some m.cls := findClass_of_methodNamed B.named
  have hlocks := B.notSynchronized
  have hin : meth.name = "<init>" := (name_of_methodNamed B.named B.method).1
  subst hsz
  have hD := hD0.self (sz := s.heap.size)
  generalize hAe : va_A [(o, .inr (1, [.null, .int 0, .int 0]))] s.heap.size = A at hD hV ⊢
  have hA : ∀ q : Nat, s.heap.size ≤ q → A q := fun q h => by rw [← hAe]; exact Or.inr h
  have hS : va_S A s.heap s.heap [] := va_S.rf
  have hP : va_P D dd_cl [(o, .inr (1, [.null, .int 0, .int 0]))] s.heap := hP
  have hD : va_D A [(o, .inr (1, [.null, .int 0, .int 0]))] := hD
  have hl := lv_entry ([.ref o]) (n := 1) (Nat.le_of_ble_eq_true rfl)
  rw [lg_entry_eq]
  generalize (lg_sl ([.ref o]) ++ List.replicate (1 - (lg_sl ([.ref o])).length) Slot.unset).toArray = ls at hl ⊢
  have hl : lv_has ls 1 [(0, .ref o)] := hl
  refine lv_aload_n hx hb d_C_init_0 rfl (lv_at hl 0 rfl) ?_
  refine W.objInit hx hb hown (htb _ tb_21) (htb _ tb_14) (htb _ tb_15) rfl (by rw [hml]; exact hl.1) rfl d_C_init_1 (Nat.le_of_ble_eq_true rfl) (Nat.le_of_ble_eq_true rfl) ?_
  refine W.eq (g2 := F0 m 4 ls []) rfl ?_
  refine lv_aload_n hx hb d_C_init_4 rfl (lv_at hl 0 rfl) ?_
  have hPc := hP.sub (ws' := []) [] rfl
  have hDc := hD.sub (ws' := []) [] (by decide) rfl
  have hFc := va_free (wc := []) hD hS hA [] rfl
  refine va_callr (va_runS (As := []) (rest := [.ref o]) ⟨hx, hb, hml, hown, htb⟩ (c_P_values l D k ad tv s.heap.size) (va_cwS 0 htb (dd_gS tb_22 tb_23 tb_4 tb_24) rfl rfl rfl hd_P_values.2 ⟨Nat.le_of_ble_eq_true rfl, Nat.le_of_ble_eq_true rfl⟩) ⟨dd_PV.bl, dd_PV.of hPc hDc hK hN hL hV hS hFc⟩ rfl rfl hl.1 rfl (lv_room (Nat.le_of_ble_eq_true rfl)) d_C_init_5 ⟨Nat.le_of_ble_eq_true rfl, Nat.le_of_ble_eq_true rfl⟩) hS (fun q _ h => hFc q h) hFc (fun _ q1 t H locs ht hvm hw hB hz hk hS => ?_)
  subst ht
  obtain ⟨hP, hD⟩ := va_join (wr := [(o, .inr (1, [.null, .int 0, .int 0]))]) (w1 := [(q1, .inl (k 3, 5, .inr (.inr (.inr (.inr (fun i => some (ad i)))))))]) hP hD [] [0] rfl rfl (by decide) (by decide) hk hFc hB.1 hB.2
  generalize t.heap = H at hP hS ⊢
  have hP : va_P D dd_cl [(o, .inr (1, [.null, .int 0, .int 0])), (q1, .inl (k 3, 5, .inr (.inr (.inr (.inr (fun i => some (ad i)))))))] H := hP
  have hD : va_D A [(o, .inr (1, [.null, .int 0, .int 0])), (q1, .inl (k 3, 5, .inr (.inr (.inr (.inr (fun i => some (ad i)))))))] := hD
  refine va_putF (D := D) (ci := 1) (v := .ref q1) (ty := .array (.object "DayDesk$Phase")) (C := R_C) (T := F_C) (N := 3) hx hb htb i_C t_C t_C_ok n_C hown hK hP hD hS 0 rfl rfl 0 (by decide) (htb _ tb_35) (fun _ h9 => h9) rfl hin rfl (by decide +kernel) rfl rfl (Nat.le_of_ble_eq_true rfl) d_C_init_8 (fun H locs hP hD hS => ?_)
  have hP : va_P D dd_cl [(o, .inr (1, [.ref q1, .int 0, .int 0])), (q1, .inl (k 3, 5, .inr (.inr (.inr (.inr (fun i => some (ad i)))))))] H := hP
  have hD : va_D A [(o, .inr (1, [.ref q1, .int 0, .int 0])), (q1, .inl (k 3, 5, .inr (.inr (.inr (.inr (fun i => some (ad i)))))))] := hD
  refine W.widen (k := 1) (n := 5) (Nat.le_of_ble_eq_true rfl) (Nat.le_of_ble_eq_true rfl) ?_
  exact W.vret hx hb hr (fun t ht hW => ⟨⟨q1, rfl, trivial, by rw [ht]; exact hP, hD⟩, hS.F ht⟩) hS.2.2 d_C_init_11
set_option maxHeartbeats 4000000 in
set_option maxRecDepth 100000 in
theorem c_D_init (l : Launch) (D : va_G) (k : Nat → ClassId) (ad : Nat → Nat) (tv sz : Nat) (o : Nat) : Met l y_D_init w_D_init ({ frames := 3, cells := 11, slots := 1156, locals := 53 }) (dd_PV D k ad tv sz [(o, .inr (0, [.null, .null, .null]))] [.ref o]) (dd_Qv D (fun u : Nat → Nat => u 0 = o) (fun u => dd_wD k u (0, 0, ((fun _ => 0), (fun _ => 0), (fun _ => 0), (fun _ => 0), (fun _ => 0)), (fun _ => 0), (fun _ => 0), 0) ++ dd_wP k ad u) (va_A [(o, .inr (0, [.null, .null, .null]))] sz)) 11 1156 (va_A [(o, .inr (0, [.null, .null, .null]))] sz) := by
  refine Met.ofW (cc := b_D_init) (maxL := 1) (ret := none) (by decide) rfl ?_
  intro p e s m args below meth c s₁ B hml hv
  obtain ⟨rfl, hsz, hP, hD0, hK, hN, hL, hV⟩ := hv
  have hx := B.exec
  have hb := B.bytes
  have hr := B.returns
  have htb := dd_tb (atoms_spec (ws := w_D_init) B.pre)
  have hown : s.vm.findClass "DayDesk" = some m.cls := findClass_of_methodNamed B.named
  have hlocks := B.notSynchronized
  have hin : meth.name = "<init>" := (name_of_methodNamed B.named B.method).1
  subst hsz
  have hD := hD0.self (sz := s.heap.size)
  generalize hAe : va_A [(o, .inr (0, [.null, .null, .null]))] s.heap.size = A at hD hV ⊢
  have hA : ∀ q : Nat, s.heap.size ≤ q → A q := fun q h => by rw [← hAe]; exact Or.inr h
  have hS : va_S A s.heap s.heap [] := va_S.rf
  have hP : va_P D dd_cl [(o, .inr (0, [.null, .null, .null]))] s.heap := hP
  have hD : va_D A [(o, .inr (0, [.null, .null, .null]))] := hD
  have hl := lv_entry ([.ref o]) (n := 1) (Nat.le_of_ble_eq_true rfl)
  rw [lg_entry_eq]
  generalize (lg_sl ([.ref o]) ++ List.replicate (1 - (lg_sl ([.ref o])).length) Slot.unset).toArray = ls at hl ⊢
  have hl : lv_has ls 1 [(0, .ref o)] := hl
  refine lv_aload_n hx hb d_D_init_0 rfl (lv_at hl 0 rfl) ?_
  refine W.objInit hx hb hown (htb _ tb_13) (htb _ tb_14) (htb _ tb_15) rfl (by rw [hml]; exact hl.1) rfl d_D_init_1 (Nat.le_of_ble_eq_true rfl) (Nat.le_of_ble_eq_true rfl) ?_
  refine W.eq (g2 := F0 m 4 ls []) rfl ?_
  refine lv_aload_n hx hb d_D_init_4 rfl (lv_at hl 0 rfl) ?_
  refine va_new (ci := 1) (fs := [.null, .int 0, .int 0]) (C := R_C) (T := F_C) (N := 3) hx hb htb i_C t_C t_C_ok hown (htb _ tb_16) (htb _ tb_17) (htb _ tb_2) hK hP hD hS hA rfl (fun j hj => by rcases (show j = 0 ∨ j = 1 ∨ j = 2 by omega) with rfl | rfl | rfl <;> rfl) (Nat.le_of_ble_eq_true rfl) (Nat.le_of_ble_eq_true rfl) d_D_init_5 (fun q_1 H hP hD hS => ?_)
  have hP : va_P D dd_cl [(o, .inr (0, [.null, .null, .null])), (q_1, .inr (1, [.null, .int 0, .int 0]))] H := hP
  have hD : va_D A [(o, .inr (0, [.null, .null, .null])), (q_1, .inr (1, [.null, .int 0, .int 0]))] := hD
  refine lv_dup hx hb d_D_init_8 rfl ?_
  have hPc := hP.sub (ws' := [(q_1, .inr (1, [.null, .int 0, .int 0]))]) [1] rfl
  have hDc := hD.sub (ws' := [(q_1, .inr (1, [.null, .int 0, .int 0]))]) [1] (by decide) rfl
  have hFc := va_free (wc := [(q_1, .inr (1, [.null, .int 0, .int 0]))]) hD hS hA [1] rfl
  refine dd_mv (wc := [(q_1, .inr (1, [.null, .int 0, .int 0]))]) (wr := [(o, .inr (0, [.null, .null, .null]))]) (va_runIN (As := []) (rest := [.ref q_1, .ref o]) ⟨hx, hb, hml, hown, htb⟩ (c_C_init l D k ad tv H.size q_1) ⟨va_cnB 0 htb (dd_gi tb_20) rfl rfl rfl hL.2.1 (htb _ tb_2) hd_C_init.2 ⟨Nat.le_of_ble_eq_true rfl, Nat.le_of_ble_eq_true rfl⟩, rfl, htb _ tb_19⟩ ⟨dd_PV.bl, dd_PV.of hPc hDc hK hN hL hV hS hFc⟩ rfl rfl hl.1 rfl (lv_room (Nat.le_of_ble_eq_true rfl)) d_D_init_9 ⟨Nat.le_of_ble_eq_true rfl, Nat.le_of_ble_eq_true rfl⟩) hP hD hS hA [1] [0] rfl rfl (by decide) (by decide) (fun u_c H locs hw hP hD hS => ?_)
  have hP : va_P D dd_cl [(o, .inr (0, [.null, .null, .null])), (q_1, .inr (1, [.ref u_c, .int 0, .int 0])), (u_c, .inl (k 3, 5, .inr (.inr (.inr (.inr (fun i => some (ad i)))))))] H := hP
  have hD : va_D A [(o, .inr (0, [.null, .null, .null])), (q_1, .inr (1, [.ref u_c, .int 0, .int 0])), (u_c, .inl (k 3, 5, .inr (.inr (.inr (.inr (fun i => some (ad i)))))))] := hD
  refine va_putF (D := D) (ci := 0) (v := .ref q_1) (ty := .object "DayDesk$DayClock") (C := R_D) (T := F_D) (N := 3) hx hb htb i_D t_D t_D_ok n_D hown hK hP hD hS 0 rfl rfl 0 (by decide) (htb _ tb_90) (fun _ h9 => h9) rfl hin rfl (by decide +kernel) rfl rfl (Nat.le_of_ble_eq_true rfl) d_D_init_12 (fun H locs hP hD hS => ?_)
  have hP : va_P D dd_cl [(o, .inr (0, [.ref q_1, .null, .null])), (q_1, .inr (1, [.ref u_c, .int 0, .int 0])), (u_c, .inl (k 3, 5, .inr (.inr (.inr (.inr (fun i => some (ad i)))))))] H := hP
  have hD : va_D A [(o, .inr (0, [.ref q_1, .null, .null])), (q_1, .inr (1, [.ref u_c, .int 0, .int 0])), (u_c, .inl (k 3, 5, .inr (.inr (.inr (.inr (fun i => some (ad i)))))))] := hD
  refine lv_aload_n hx hb d_D_init_15 rfl (lv_at hl 0 rfl) ?_
  refine va_new (ci := 2) (fs := [.null, .null, .null, .null, .null]) (C := R_S) (T := F_S) (N := 5) hx hb htb i_S t_S t_S_ok hown (htb _ tb_47) (htb _ tb_48) (htb _ tb_5) hK hP hD hS hA rfl (fun j hj => by rcases (show j = 0 ∨ j = 1 ∨ j = 2 ∨ j = 3 ∨ j = 4 by omega) with rfl | rfl | rfl | rfl | rfl <;> rfl) (Nat.le_of_ble_eq_true rfl) (Nat.le_of_ble_eq_true rfl) d_D_init_16 (fun q_2 H hP hD hS => ?_)
  have hP : va_P D dd_cl [(o, .inr (0, [.ref q_1, .null, .null])), (q_1, .inr (1, [.ref u_c, .int 0, .int 0])), (u_c, .inl (k 3, 5, .inr (.inr (.inr (.inr (fun i => some (ad i))))))), (q_2, .inr (2, [.null, .null, .null, .null, .null]))] H := hP
  have hD : va_D A [(o, .inr (0, [.ref q_1, .null, .null])), (q_1, .inr (1, [.ref u_c, .int 0, .int 0])), (u_c, .inl (k 3, 5, .inr (.inr (.inr (.inr (fun i => some (ad i))))))), (q_2, .inr (2, [.null, .null, .null, .null, .null]))] := hD
  refine lv_dup hx hb d_D_init_19 rfl ?_
  refine lv_sipush (v := 200) hx hb d_D_init_20 (by decide) ?_
  have hPc := hP.sub (ws' := [(q_2, .inr (2, [.null, .null, .null, .null, .null]))]) [3] rfl
  have hDc := hD.sub (ws' := [(q_2, .inr (2, [.null, .null, .null, .null, .null]))]) [3] (by decide) rfl
  refine dd_mv (wc := [(q_2, .inr (2, [.null, .null, .null, .null, .null]))]) (wr := [(o, .inr (0, [.ref q_1, .null, .null])), (q_1, .inr (1, [.ref u_c, .int 0, .int 0])), (u_c, .inl (k 3, 5, .inr (.inr (.inr (.inr (fun i => some (ad i)))))))]) (va_runI (As := [.int 200]) (rest := [.ref q_2, .ref o]) ⟨hx, hb, hml, hown, htb⟩ (c_S_init l D k (fun _ => 0) H.size q_2) (cwI 1 htb (dd_gi tb_51) rfl rfl rfl (htb _ tb_5) (htb _ tb_49) (htb _ tb_50) rfl hd_S_init.2 ⟨Nat.le_of_ble_eq_true rfl, Nat.le_of_ble_eq_true rfl⟩) ⟨dd_PM.bl, dd_PM.of hPc hDc hK hN⟩ rfl rfl hl.1 rfl (lv_room (Nat.le_of_ble_eq_true rfl)) d_D_init_23 ⟨Nat.le_of_ble_eq_true rfl, Nat.le_of_ble_eq_true rfl⟩) hP hD hS hA [3] [0, 1, 2] rfl rfl (by decide) (by decide) (fun u H locs hw hP hD hS => ?_)
  obtain ⟨s1, s2, s3, s4, s5⟩ := u
  have hP : va_P D dd_cl [(o, .inr (0, [.ref q_1, .null, .null])), (q_1, .inr (1, [.ref u_c, .int 0, .int 0])), (u_c, .inl (k 3, 5, .inr (.inr (.inr (.inr (fun i => some (ad i))))))), (q_2, .inr (2, [.ref s1, .ref s2, .ref s3, .ref s4, .ref s5])), (s1, .inl (k 0, 200, .inr (.inl (fun _ => 0)))), (s2, .inl (k 0, 200, .inr (.inl (fun _ => 0)))), (s3, .inl (k 0, 200, .inr (.inl (fun _ => 0)))), (s4, .inl (k 0, 200, .inr (.inl (fun _ => 0)))), (s5, .inl (k 1, 200, .inl (fun _ => 0)))] H := hP
  have hD : va_D A [(o, .inr (0, [.ref q_1, .null, .null])), (q_1, .inr (1, [.ref u_c, .int 0, .int 0])), (u_c, .inl (k 3, 5, .inr (.inr (.inr (.inr (fun i => some (ad i))))))), (q_2, .inr (2, [.ref s1, .ref s2, .ref s3, .ref s4, .ref s5])), (s1, .inl (k 0, 200, .inr (.inl (fun _ => 0)))), (s2, .inl (k 0, 200, .inr (.inl (fun _ => 0)))), (s3, .inl (k 0, 200, .inr (.inl (fun _ => 0)))), (s4, .inl (k 0, 200, .inr (.inl (fun _ => 0)))), (s5, .inl (k 1, 200, .inl (fun _ => 0)))] := hD
  refine va_putF (D := D) (ci := 0) (v := .ref q_2) (ty := .object "DayDesk$Sums") (C := R_D) (T := F_D) (N := 3) hx hb htb i_D t_D t_D_ok n_D hown hK hP hD hS 0 rfl rfl 1 (by decide) (htb _ tb_91) (fun _ h9 => h9) rfl hin rfl (by decide +kernel) rfl rfl (Nat.le_of_ble_eq_true rfl) d_D_init_26 (fun H locs hP hD hS => ?_)
  have hP : va_P D dd_cl [(o, .inr (0, [.ref q_1, .ref q_2, .null])), (q_1, .inr (1, [.ref u_c, .int 0, .int 0])), (u_c, .inl (k 3, 5, .inr (.inr (.inr (.inr (fun i => some (ad i))))))), (q_2, .inr (2, [.ref s1, .ref s2, .ref s3, .ref s4, .ref s5])), (s1, .inl (k 0, 200, .inr (.inl (fun _ => 0)))), (s2, .inl (k 0, 200, .inr (.inl (fun _ => 0)))), (s3, .inl (k 0, 200, .inr (.inl (fun _ => 0)))), (s4, .inl (k 0, 200, .inr (.inl (fun _ => 0)))), (s5, .inl (k 1, 200, .inl (fun _ => 0)))] H := hP
  have hD : va_D A [(o, .inr (0, [.ref q_1, .ref q_2, .null])), (q_1, .inr (1, [.ref u_c, .int 0, .int 0])), (u_c, .inl (k 3, 5, .inr (.inr (.inr (.inr (fun i => some (ad i))))))), (q_2, .inr (2, [.ref s1, .ref s2, .ref s3, .ref s4, .ref s5])), (s1, .inl (k 0, 200, .inr (.inl (fun _ => 0)))), (s2, .inl (k 0, 200, .inr (.inl (fun _ => 0)))), (s3, .inl (k 0, 200, .inr (.inl (fun _ => 0)))), (s4, .inl (k 0, 200, .inr (.inl (fun _ => 0)))), (s5, .inl (k 1, 200, .inl (fun _ => 0)))] := hD
  refine lv_aload_n hx hb d_D_init_29 rfl (lv_at hl 0 rfl) ?_
  refine va_new (ci := 3) (fs := [.null, .null, .int 0]) (C := R_W) (T := F_W) (N := 3) hx hb htb i_W t_W t_W_ok hown (htb _ tb_71) (htb _ tb_72) (htb _ tb_6) hK hP hD hS hA rfl (fun j hj => by rcases (show j = 0 ∨ j = 1 ∨ j = 2 by omega) with rfl | rfl | rfl <;> rfl) (Nat.le_of_ble_eq_true rfl) (Nat.le_of_ble_eq_true rfl) d_D_init_30 (fun q_3 H hP hD hS => ?_)
  have hP : va_P D dd_cl [(o, .inr (0, [.ref q_1, .ref q_2, .null])), (q_1, .inr (1, [.ref u_c, .int 0, .int 0])), (u_c, .inl (k 3, 5, .inr (.inr (.inr (.inr (fun i => some (ad i))))))), (q_2, .inr (2, [.ref s1, .ref s2, .ref s3, .ref s4, .ref s5])), (s1, .inl (k 0, 200, .inr (.inl (fun _ => 0)))), (s2, .inl (k 0, 200, .inr (.inl (fun _ => 0)))), (s3, .inl (k 0, 200, .inr (.inl (fun _ => 0)))), (s4, .inl (k 0, 200, .inr (.inl (fun _ => 0)))), (s5, .inl (k 1, 200, .inl (fun _ => 0))), (q_3, .inr (3, [.null, .null, .int 0]))] H := hP
  have hD : va_D A [(o, .inr (0, [.ref q_1, .ref q_2, .null])), (q_1, .inr (1, [.ref u_c, .int 0, .int 0])), (u_c, .inl (k 3, 5, .inr (.inr (.inr (.inr (fun i => some (ad i))))))), (q_2, .inr (2, [.ref s1, .ref s2, .ref s3, .ref s4, .ref s5])), (s1, .inl (k 0, 200, .inr (.inl (fun _ => 0)))), (s2, .inl (k 0, 200, .inr (.inl (fun _ => 0)))), (s3, .inl (k 0, 200, .inr (.inl (fun _ => 0)))), (s4, .inl (k 0, 200, .inr (.inl (fun _ => 0)))), (s5, .inl (k 1, 200, .inl (fun _ => 0))), (q_3, .inr (3, [.null, .null, .int 0]))] := hD
  refine lv_dup hx hb d_D_init_33 rfl ?_
  have hPc := hP.sub (ws' := [(q_3, .inr (3, [.null, .null, .int 0]))]) [9] rfl
  have hDc := hD.sub (ws' := [(q_3, .inr (3, [.null, .null, .int 0]))]) [9] (by decide) rfl
  refine dd_mv (wc := [(q_3, .inr (3, [.null, .null, .int 0]))]) (wr := [(o, .inr (0, [.ref q_1, .ref q_2, .null])), (q_1, .inr (1, [.ref u_c, .int 0, .int 0])), (u_c, .inl (k 3, 5, .inr (.inr (.inr (.inr (fun i => some (ad i))))))), (q_2, .inr (2, [.ref s1, .ref s2, .ref s3, .ref s4, .ref s5])), (s1, .inl (k 0, 200, .inr (.inl (fun _ => 0)))), (s2, .inl (k 0, 200, .inr (.inl (fun _ => 0)))), (s3, .inl (k 0, 200, .inr (.inl (fun _ => 0)))), (s4, .inl (k 0, 200, .inr (.inl (fun _ => 0)))), (s5, .inl (k 1, 200, .inl (fun _ => 0)))]) (va_runIN (As := []) (rest := [.ref q_3, .ref o]) ⟨hx, hb, hml, hown, htb⟩ (c_W_init l D k (fun _ => 0) H.size q_3) ⟨va_cnB 0 htb (dd_gi tb_75) rfl rfl rfl hL.2.2 (htb _ tb_6) hd_W_init.2 ⟨Nat.le_of_ble_eq_true rfl, Nat.le_of_ble_eq_true rfl⟩, rfl, htb _ tb_74⟩ ⟨dd_PM.bl, dd_PM.of hPc hDc hK hN⟩ rfl rfl hl.1 rfl (lv_room (Nat.le_of_ble_eq_true rfl)) d_D_init_34 ⟨Nat.le_of_ble_eq_true rfl, Nat.le_of_ble_eq_true rfl⟩) hP hD hS hA [9] [0, 1, 2, 3, 4, 5, 6, 7, 8] rfl rfl (by decide) (by decide) (fun u H locs hw hP hD hS => ?_)
  obtain ⟨w1, w2⟩ := u
  have hP : va_P D dd_cl [(o, .inr (0, [.ref q_1, .ref q_2, .null])), (q_1, .inr (1, [.ref u_c, .int 0, .int 0])), (u_c, .inl (k 3, 5, .inr (.inr (.inr (.inr (fun i => some (ad i))))))), (q_2, .inr (2, [.ref s1, .ref s2, .ref s3, .ref s4, .ref s5])), (s1, .inl (k 0, 200, .inr (.inl (fun _ => 0)))), (s2, .inl (k 0, 200, .inr (.inl (fun _ => 0)))), (s3, .inl (k 0, 200, .inr (.inl (fun _ => 0)))), (s4, .inl (k 0, 200, .inr (.inl (fun _ => 0)))), (s5, .inl (k 1, 200, .inl (fun _ => 0))), (q_3, .inr (3, [.ref w1, .ref w2, .int 0])), (w1, .inl (k 2, 120, .inl (fun _ => 0))), (w2, .inl (k 2, 20, .inl (fun _ => 0)))] H := hP
  have hD : va_D A [(o, .inr (0, [.ref q_1, .ref q_2, .null])), (q_1, .inr (1, [.ref u_c, .int 0, .int 0])), (u_c, .inl (k 3, 5, .inr (.inr (.inr (.inr (fun i => some (ad i))))))), (q_2, .inr (2, [.ref s1, .ref s2, .ref s3, .ref s4, .ref s5])), (s1, .inl (k 0, 200, .inr (.inl (fun _ => 0)))), (s2, .inl (k 0, 200, .inr (.inl (fun _ => 0)))), (s3, .inl (k 0, 200, .inr (.inl (fun _ => 0)))), (s4, .inl (k 0, 200, .inr (.inl (fun _ => 0)))), (s5, .inl (k 1, 200, .inl (fun _ => 0))), (q_3, .inr (3, [.ref w1, .ref w2, .int 0])), (w1, .inl (k 2, 120, .inl (fun _ => 0))), (w2, .inl (k 2, 20, .inl (fun _ => 0)))] := hD
  refine va_putF (D := D) (ci := 0) (v := .ref q_3) (ty := .object "DayDesk$NumberWriter") (C := R_D) (T := F_D) (N := 3) hx hb htb i_D t_D t_D_ok n_D hown hK hP hD hS 0 rfl rfl 2 (by decide) (htb _ tb_92) (fun _ h9 => h9) rfl hin rfl (by decide +kernel) rfl rfl (Nat.le_of_ble_eq_true rfl) d_D_init_37 (fun H locs hP hD hS => ?_)
  have hP : va_P D dd_cl [(o, .inr (0, [.ref q_1, .ref q_2, .ref q_3])), (q_1, .inr (1, [.ref u_c, .int 0, .int 0])), (u_c, .inl (k 3, 5, .inr (.inr (.inr (.inr (fun i => some (ad i))))))), (q_2, .inr (2, [.ref s1, .ref s2, .ref s3, .ref s4, .ref s5])), (s1, .inl (k 0, 200, .inr (.inl (fun _ => 0)))), (s2, .inl (k 0, 200, .inr (.inl (fun _ => 0)))), (s3, .inl (k 0, 200, .inr (.inl (fun _ => 0)))), (s4, .inl (k 0, 200, .inr (.inl (fun _ => 0)))), (s5, .inl (k 1, 200, .inl (fun _ => 0))), (q_3, .inr (3, [.ref w1, .ref w2, .int 0])), (w1, .inl (k 2, 120, .inl (fun _ => 0))), (w2, .inl (k 2, 20, .inl (fun _ => 0)))] H := hP
  have hD : va_D A [(o, .inr (0, [.ref q_1, .ref q_2, .ref q_3])), (q_1, .inr (1, [.ref u_c, .int 0, .int 0])), (u_c, .inl (k 3, 5, .inr (.inr (.inr (.inr (fun i => some (ad i))))))), (q_2, .inr (2, [.ref s1, .ref s2, .ref s3, .ref s4, .ref s5])), (s1, .inl (k 0, 200, .inr (.inl (fun _ => 0)))), (s2, .inl (k 0, 200, .inr (.inl (fun _ => 0)))), (s3, .inl (k 0, 200, .inr (.inl (fun _ => 0)))), (s4, .inl (k 0, 200, .inr (.inl (fun _ => 0)))), (s5, .inl (k 1, 200, .inl (fun _ => 0))), (q_3, .inr (3, [.ref w1, .ref w2, .int 0])), (w1, .inl (k 2, 120, .inl (fun _ => 0))), (w2, .inl (k 2, 20, .inl (fun _ => 0)))] := hD
  have hP : va_P D dd_cl (dd_wD k (fun i => [o, q_1, q_2, s1, s2, s3, s4, s5, q_3, w1, w2, u_c].getD i 0) (0, 0, ((fun _ => 0), (fun _ => 0), (fun _ => 0), (fun _ => 0), (fun _ => 0)), (fun _ => 0), (fun _ => 0), 0) ++ dd_wP k ad (fun i => [o, q_1, q_2, s1, s2, s3, s4, s5, q_3, w1, w2, u_c].getD i 0)) H := hP.sub [0, 1, 3, 4, 5, 6, 7, 8, 9, 10, 11, 2] rfl
  have hD : va_D A (dd_wD k (fun i => [o, q_1, q_2, s1, s2, s3, s4, s5, q_3, w1, w2, u_c].getD i 0) (0, 0, ((fun _ => 0), (fun _ => 0), (fun _ => 0), (fun _ => 0), (fun _ => 0)), (fun _ => 0), (fun _ => 0), 0) ++ dd_wP k ad (fun i => [o, q_1, q_2, s1, s2, s3, s4, s5, q_3, w1, w2, u_c].getD i 0)) := hD.sub [0, 1, 3, 4, 5, 6, 7, 8, 9, 10, 11, 2] (by decide) rfl
  refine W.widen (k := 11) (n := 1156) (Nat.le_of_ble_eq_true rfl) (Nat.le_of_ble_eq_true rfl) ?_
  exact W.vret hx hb hr (fun t ht hW => ⟨⟨(fun i => [o, q_1, q_2, s1, s2, s3, s4, s5, q_3, w1, w2, u_c].getD i 0), rfl, rfl, by rw [ht]; exact hP, hD⟩, hS.F ht⟩) hS.2.2 d_D_init_40
end
section
/-! the pure law: the two states say the same -/
theorem dd_1000 : (1000 : Int64) = lN 1000 := by decide
theorem dd_1000i : (1000 : Int32) = nI 1000 := by decide
theorem dd_tk_lN {T : Nat} (h : T < 2 ^ 31) : dd_tkM (lN T) = nI (T % 1000) := by
  unfold dd_tkM
  rw [dd_1000, pk_lRem (by omega) (by decide) (by decide), lN_i]
def dd_RT (T : Nat) (day tick : Int32) (tk : Int64) : Prop := tk = lN T ∧ tick = nI (T % 1000) ∧ day = nI (T / 1000)
theorem dd_RT_tk {T : Nat} {day tick : Int32} {tk : Int64} (h : dd_RT T day tick tk) (hT : T < 2 ^ 31) : dd_tkM tk = tick := by
  rw [h.1, h.2.1, dd_tk_lN hT]
theorem dd_RT_step {T : Nat} {day tick : Int32} {tk : Int64} (h : dd_RT T day tick tk) (hT : T + 1 < 2 ^ 31) : dd_RT (T + 1) (dd_nxd tick day) (dd_nxt tick) (tk + 1) ∧ dd_tkM (tk + 1) = dd_nxt tick := by
  obtain ⟨h1, h2, h3⟩ := h
  have e1 : tk + 1 = lN (T + 1) := by rw [h1]; exact lN_1 T
  have e2 : dd_nxt tick = nI ((T + 1) % 1000) ∧ dd_nxd tick day = nI ((T + 1) / 1000) := by
    unfold dd_nxt dd_nxd
    rw [h2, h3, nI_1, dd_1000i]
    by_cases q : T % 1000 + 1 = 1000
    · rw [if_pos (by rw [q]), if_pos (by rw [q]), nI_1]
      refine ⟨?_, ?_⟩
      · rw [show (T + 1) % 1000 = 0 by omega]; exact nI_0.symm
      · rw [show (T + 1) / 1000 = T / 1000 + 1 by omega]
    · have q2 : ¬ nI (T % 1000 + 1) = nI 1000 := fun z => q ((nI_eq (by omega) (by decide)).mp z)
      rw [if_neg q2, if_neg q2]
      refine ⟨?_, ?_⟩
      · rw [show (T + 1) % 1000 = T % 1000 + 1 by omega]
      · rw [show (T + 1) / 1000 = T / 1000 by omega]
  refine ⟨⟨e1, e2.1, e2.2⟩, ?_⟩
  rw [e1, e2.1, dd_tk_lN hT]
/-- how many moves of a position -/
def dd_cnt (mf : Nat → Int32) (p : Int32) : Nat → Nat
  | 0 => 0
  | i + 1 => if ¬ mf i = p then dd_cnt mf p i else dd_cnt mf p i + 1
theorem dd_cnt_le (mf : Nat → Int32) (p : Int32) (n : Nat) : dd_cnt mf p n ≤ n := by
  induction n with
  | zero => exact Nat.le_refl 0
  | succ n ih =>
    unfold dd_cnt
    split <;> omega
theorem dd_mN_cnt (mf : Nat → Int32) (p : Int32) (n : Nat) : dd_mN mf p n = lN (dd_cnt mf p n) := by
  induction n with
  | zero => exact (by decide : (0 : Int64) = lN 0)
  | succ n ih =>
    unfold dd_mN dd_cnt
    by_cases h : mf n = p
    · rw [if_neg (not_not_intro h), if_neg (not_not_intro h), ih, lN_1]
    · rw [if_pos h, if_pos h, ih]
def dd_RS (ss : dd_SS) (op : Nat → Int64) (mf : Nat → Int32) (mb : Nat → Int64) (mv : Nat) : Prop := ∀ q, q < 200 → ss.1 q = op q ∧ ss.2.1 q = dd_mW mf mb (nI q) mv ∧ ss.2.2.1 q = dd_mC mf mb (nI q) mv ∧ ss.2.2.2.1 q = dd_nwM op mf mb mv q ∧ ss.2.2.2.2 q = nI (dd_cnt mf (nI q) mv)
theorem dd_RS_step {tick : Int32} {tk : Int64} {ss : dd_SS} {op : Nat → Int64} {mf : Nat → Int32} {mb : Nat → Int64} {mv : Nat} (h : dd_RS ss op mf mb mv) (e : dd_tkM (tk + 1) = dd_nxt tick) : dd_RS (dd_psS tick ss) (dd_psOp tk op mf mb mv) mf mb (dd_psMv tk mv) := by
  unfold dd_psS dd_psOp dd_psMv
  rw [e]
  by_cases c : dd_nxt tick = 0
  · rw [if_pos c, if_pos c, if_pos c]
    intro q hq
    obtain ⟨h1, h2, h3, h4, h5⟩ := h q hq
    have e1 : (dd_bgS ss 200).1 q = dd_nwM op mf mb mv q := by
      show (if q < 200 then ss.2.2.2.1 q else ss.1 q) = _
      rw [if_pos hq, h4]
    have e2 : dd_bgM op mf mb mv 200 q = dd_nwM op mf mb mv q := by
      show (if q < 200 then dd_nwM op mf mb mv q else op q) = _
      rw [if_pos hq]
    refine ⟨by rw [e1, e2], ?_, ?_, ?_, ?_⟩
    · show (if q < 200 then (0 : Int64) else _) = 0
      rw [if_pos hq]
    · show (if q < 200 then (0 : Int64) else _) = 0
      rw [if_pos hq]
    · show ss.2.2.2.1 q = dd_bgM op mf mb mv 200 q - 0 + 0
      rw [e2, h4, Int64.sub_zero, Int64.add_zero]
    · show (if q < 200 then (0 : Int32) else _) = nI 0
      rw [if_pos hq, nI_0]
  · rw [if_neg c, if_neg c, if_neg c]
    exact h
theorem dd_it {T : Nat} {day tick : Int32} {tk : Int64} {ss : dd_SS} {op : Nat → Int64} {mf : Nat → Int32} {mb : Nat → Int64} {mv : Nat} (hT : dd_RT T day tick tk) (hS : dd_RS ss op mf mb mv) : ∀ i, T + i < 2 ^ 31 →
    dd_RT (T + i) (dd_itD day tick ss i).1 (dd_itD day tick ss i).2.1 (dd_itM mf mb tk op mv i).1 ∧ dd_RS (dd_itD day tick ss i).2.2.1 (dd_itM mf mb tk op mv i).2.1 mf mb (dd_itM mf mb tk op mv i).2.2.1 ∧ (dd_itD day tick ss i).2.2.2 = (dd_itM mf mb tk op mv i).2.2.2 := by
  intro i
  induction i with
  | zero => intro _; exact ⟨hT, hS, rfl⟩
  | succ i ih =>
    intro hb
    obtain ⟨a1, a2, a3⟩ := ih (by omega)
    obtain ⟨b1, b2⟩ := dd_RT_step a1 (by omega)
    refine ⟨b1, dd_RS_step a2 b2, ?_⟩
    show (dd_itD day tick ss i).2.2.2 + (dd_pv (dd_nxt (dd_itD day tick ss i).2.1) &&& 1) = (dd_itM mf mb tk op mv i).2.2.2 + (dd_pv (dd_tkM ((dd_itM mf mb tk op mv i).1 + 1)) &&& 1)
    rw [a3, b2]
/-! may -/
theorem dd_ph_nI (t : Int32) : dd_ph t = nI (dd_phN t) := by
  have l1 : ∀ c : Int32, c ≤ t ↔ c.toInt ≤ t.toInt := fun c => Int32.le_iff_toInt_le
  have k1 : (100 : Int32).toInt = 100 := by decide
  have k7 : (700 : Int32).toInt = 700 := by decide
  have k8 : (800 : Int32).toInt = 800 := by decide
  have k9 : (900 : Int32).toInt = 900 := by decide
  unfold dd_ph dd_phN
  simp only [l1, k1, k7, k8, k9]
  by_cases c9 : 900 ≤ t.toInt
  · rw [if_pos (by omega), if_pos (by omega), if_pos (by omega), if_pos c9, if_pos c9]; decide
  · rw [if_neg c9, if_neg c9]
    by_cases c8 : 800 ≤ t.toInt
    · rw [if_pos (by omega), if_pos (by omega), if_pos c8, if_pos c8]; decide
    · rw [if_neg c8, if_neg c8]
      by_cases c7 : 700 ≤ t.toInt
      · rw [if_pos (by omega), if_pos c7, if_pos c7]; decide
      · rw [if_neg c7, if_neg c7]
        by_cases c1 : 100 ≤ t.toInt
        · rw [if_pos c1, if_pos c1]; decide
        · rw [if_neg c1, if_neg c1]; decide
theorem dd_tab : ∀ i, i < 5 → ∀ j, j < 15 → (dd_brs (dd_bar i) (nI j) = 0 ↔ ¬ dd_gd2 (nI i) (nI j) = 0) := by decide +kernel
theorem dd_may_eq {i : Nat} (hi : i < 5) (kind prio money : Int32) : dd_mayD i kind prio money = dd_mayM (nI i) kind prio money := by
  have g0 : dd_gd kind = 0 → dd_mayM (nI i) kind prio money = 0 := by
    intro g
    unfold dd_mayM dd_gd2
    rw [if_pos g, if_pos rfl]
  unfold dd_mayD
  by_cases c0 : kind < 0
  · rw [if_pos c0, g0 (by unfold dd_gd; rw [if_pos c0])]
  · rw [if_neg c0]
    by_cases c1 : 15 ≤ kind
    · have c2 : 14 < kind := by
        rw [Int32.lt_iff_toInt_lt]
        rw [Int32.le_iff_toInt_le] at c1
        have k1 : (15 : Int32).toInt = 15 := by decide
        have k2 : (14 : Int32).toInt = 14 := by decide
        omega
      rw [if_pos c1, g0 (by unfold dd_gd; rw [if_neg c0, if_pos c2])]
    · rw [if_neg c1]
      obtain ⟨j, hj, rfl⟩ : ∃ j : Nat, j < 15 ∧ kind = nI j := by
        rcases pk_ix kind (n := 15) (by decide) with q | q | q
        · exact absurd q c0
        · exact absurd q c1
        · exact q
      have ht := dd_tab i hi j hj
      unfold dd_mayM
      by_cases cb : dd_brs (dd_bar i) (nI j) = 0
      · rw [if_pos cb, if_neg (ht.mp cb)]
        by_cases c5 : nI j = 5
        · rw [if_neg (not_not_intro c5), if_neg (not_not_intro c5)]
          rcases (show i = 0 ∨ i = 1 ∨ i = 2 ∨ i = 3 ∨ i = 4 by omega) with rfl | rfl | rfl | rfl | rfl
          · rw [if_neg (by decide), if_neg (by decide), if_pos (by decide), if_pos (by decide)]
          · rw [if_neg (by decide), if_neg (by decide), if_pos (by decide), if_pos (by decide)]
          · rw [if_pos rfl, if_neg (show ¬ ¬ nI 2 = 2 by decide), if_pos (show ¬ nI 2 = 3 by decide)]
          · rw [if_neg (show ¬ 3 = 2 by decide), if_pos rfl, if_pos (show ¬ nI 3 = 2 by decide), if_neg (show ¬ ¬ nI 3 = 3 by decide)]
          · rw [if_neg (by decide), if_neg (by decide), if_pos (by decide), if_pos (by decide)]
        · rw [if_pos c5, if_pos c5]
      · rw [if_neg cb]
        have : dd_gd2 (nI i) (nI j) = 0 := Classical.not_not.mp (fun z => cb (ht.mpr z))
        rw [if_pos this]
/-! look -/
theorem dd_rm {t n : Nat} (h : t + n < 2 ^ 31) : (nI t + nI n) - (nI t + nI n) / 1000 * 1000 = nI ((t + n) % 1000) := by
  rw [nI_add, dd_1000i]
  exact pk_rem h (by decide) (by decide)
theorem dd_rsv_nI : ∀ x, x < 1000 → (dd_rsv (nI x) = 0 ↔ (x < 150 ∨ 900 < x ∨ ¬ x % 50 = 0)) := by decide +kernel
def dd_n1 (t : Nat) : Nat := if t < 150 then 150 - t else if t < 900 then 50 - t % 50 else 1150 - t
theorem dd_TR_n1 {t : Nat} (ht : t < 1000) : dd_TR (nI t) (dd_n1 t) := by
  have hb : 1 ≤ dd_n1 t ∧ dd_n1 t ≤ 1000 := by unfold dd_n1; split <;> (try split) <;> omega
  refine ⟨hb.1, hb.2, ?_, fun i h1 h2 => ?_⟩
  · rw [dd_rm (by omega), dd_rsv_nI _ (by omega)]
    unfold dd_n1
    split
    · omega
    · split <;> omega
  · rw [dd_rm (by omega), dd_rsv_nI _ (by omega)]
    unfold dd_n1 at h2
    split at h2
    · omega
    · split at h2 <;> omega
def dd_p (t : Nat) : Nat := if t < 100 then 0 else if t < 700 then 1 else if t < 800 then 2 else if t < 900 then 3 else 4
theorem dd_ph_p : ∀ x, x < 1000 → dd_ph (nI x) = nI (dd_p x) := by decide +kernel
theorem dd_p_lt (t : Nat) : dd_p t < 5 := by unfold dd_p; repeat' split
                                             all_goals omega
theorem dd_ph_eq {x y : Nat} (hx : x < 1000) (hy : y < 1000) : dd_ph (nI x) = dd_ph (nI y) ↔ dd_p x = dd_p y := by
  have := dd_p_lt x
  have := dd_p_lt y
  rw [dd_ph_p x hx, dd_ph_p y hy]
  exact nI_eq (by omega) (by omega)
def dd_n2 (t : Nat) : Nat := if t < 100 then 100 - t else if t < 700 then 700 - t else if t < 800 then 800 - t else if t < 900 then 900 - t else 1000 - t
theorem dd_tP_n2 : ∀ t, t < 1000 → dd_tP (nI t) = nI (dd_n2 t) := by decide +kernel
theorem dd_TP_n2 {t : Nat} (ht : t < 1000) : dd_TP (nI t) (dd_n2 t) := by
  have hb : 1 ≤ dd_n2 t ∧ dd_n2 t ≤ 1000 := by
    unfold dd_n2
    repeat' split
    all_goals omega
  refine ⟨hb.1, hb.2, ?_, fun i h1 h2 => ?_⟩
  · rw [dd_rm (by omega), dd_ph_eq (by omega) ht]
    unfold dd_p dd_n2
    repeat' split
    all_goals omega
  · rw [dd_rm (by omega), dd_ph_eq (by omega) ht]
    unfold dd_n2 at h2
    unfold dd_p
    repeat' split at h2
    all_goals (repeat' split)
    all_goals omega
theorem dd_look_eq {T : Nat} {day tick : Int32} {tk : Int64} (h : dd_RT T day tick tk) (hT : T < 2 ^ 31) (what : Int32) : dd_lkD day tick (dd_n1 (T % 1000)) what = dd_lkM tk (dd_n1 (T % 1000)) (dd_n2 (T % 1000)) what := by
  have hk := dd_RT_tk h hT
  obtain ⟨h1, h2, h3⟩ := h
  have hm : T % 1000 < 1000 := Nat.mod_lt _ (by decide)
  have hd : day = (tk / 1000).toInt32 := by
    rw [h1, h3, dd_1000, pk_lDiv (by omega) (by decide) (by decide), lN_i]
  unfold dd_lkD dd_lkM
  rw [hk]
  by_cases c0 : what = 0
  · rw [c0, if_pos rfl, if_neg (by decide), if_neg (by decide), hd]
  · rw [if_neg c0]
    by_cases c1 : what = 1
    · rw [c1, if_pos rfl, if_neg (by decide), if_pos (by decide), if_neg (by decide)]
    · rw [if_neg c1]
      by_cases c2 : what = 2
      · rw [c2, if_pos rfl, if_neg (by decide), if_pos (by decide), if_pos (by decide), if_neg (by decide), dd_ph_nI]
      · rw [if_neg c2]
        by_cases c3 : what = 3
        · rw [c3, if_pos rfl, if_pos (by decide), if_pos rfl]
        · rw [if_neg c3]
          by_cases c4 : what = 4
          · rw [c4, if_pos rfl, if_pos (by decide), if_neg (by decide), if_pos (by decide), h2, dd_tP_n2 _ hm]
          · rw [if_neg c4]
            by_cases cc : 3 ≤ what
            · rw [if_pos cc, if_neg c3, if_neg]
              intro z
              have e3 := lv_neT (a := 3) c3 (by decide)
              have e4 := lv_neT (a := 4) c4 (by decide)
              rw [Int32.le_iff_toInt_le] at cc z
              have k3 : (3 : Int32).toInt = 3 := by decide
              have k4 : (4 : Int32).toInt = 4 := by decide
              omega
            · rw [if_neg cc, if_pos c0, if_pos c1, if_pos c2]
end
section
/-! the pure law: rows, moves, texts -/
theorem dd_of_eq {ss : dd_SS} {op : Nat → Int64} {mf : Nat → Int32} {mb : Nat → Int64} {mv : Nat} (h : dd_RS ss op mf mb mv) (hmv : mv < 2 ^ 31) {j : Nat} (hj : j < 200) (what : Int32) : dd_ofS ss j what = dd_rowM op mf mb mv (nI j) what := by
  obtain ⟨h1, h2, h3, h4, h5⟩ := h j hj
  have hc := dd_cnt_le mf (nI j) mv
  have e4 : (ss.2.2.2.2 j).toInt64 = dd_mN mf (nI j) mv := by rw [h5, nI_l (by omega), dd_mN_cnt]
  unfold dd_ofS dd_rowM
  rw [if_neg (show ¬ dd_isP (nI j) = 0 by rw [dd_isP_nI hj]; decide), nI_clamp (by omega)]
  unfold dd_rwM
  by_cases c0 : what = 0
  · rw [c0, if_pos rfl, if_neg (by decide), if_pos (by decide), if_neg (by decide), h1]
  · rw [if_neg c0]
    by_cases c1 : what = 1
    · rw [c1, if_pos rfl, if_neg (by decide), if_pos (by decide), if_pos (by decide), if_neg (by decide), h2]
    · rw [if_neg c1]
      by_cases c2 : what = 2
      · rw [c2, if_pos rfl, if_neg (by decide), if_pos (by decide), if_pos (by decide), if_pos (by decide), if_neg (by decide), h3]
      · rw [if_neg c2]
        by_cases c3 : what = 3
        · rw [c3, if_pos rfl, if_neg (by decide), if_pos (by decide), if_pos (by decide), if_pos (by decide), if_pos (by decide), if_neg (by decide), h4]
          rfl
        · rw [if_neg c3]
          by_cases c4 : what = 4
          · rw [c4, if_pos rfl, if_neg (by decide), if_pos (by decide), if_pos (by decide), if_pos (by decide), if_pos (by decide), if_pos (by decide), e4]
          · rw [if_neg c4]
            by_cases cn : what < 0
            · rw [if_pos cn]
            · rw [if_neg cn, if_neg]
              intro z
              have e0 := lv_neT (a := 0) c0 (by decide)
              have e1 := lv_neT (a := 1) c1 (by decide)
              have e2 := lv_neT (a := 2) c2 (by decide)
              have e3 := lv_neT (a := 3) c3 (by decide)
              have e4 := lv_neT (a := 4) c4 (by decide)
              rw [Int32.lt_iff_toInt_lt] at cn
              rw [Int32.le_iff_toInt_le] at z
              have k0 : (0 : Int32).toInt = 0 := by decide
              have k4 : (4 : Int32).toInt = 4 := by decide
              omega
theorem dd_row_eq {ss : dd_SS} {op : Nat → Int64} {mf : Nat → Int32} {mb : Nat → Int64} {mv : Nat} (h : dd_RS ss op mf mb mv) (hmv : mv < 2 ^ 31) (p what : Int32) : dd_rowD ss p what = dd_rowM op mf mb mv p what := by
  by_cases c : dd_isP p = 0
  · unfold dd_rowD dd_rowM
    rw [if_pos c, if_pos c]
  · obtain ⟨j, hj, rfl⟩ := dd_isP_of c
    rw [← dd_of_eq h hmv hj]
    unfold dd_rowD
    rw [if_neg c, nI_clamp (by omega)]
theorem dd_told_eq {ss : dd_SS} {op : Nat → Int64} {mf : Nat → Int32} {mb : Nat → Int64} {mv : Nat} (h : dd_RS ss op mf mb mv) (hmv : mv < 2 ^ 30) (p : Int32) : dd_tdD ss p = dd_tdM op mf mb mv p := by
  unfold dd_tdD dd_tdM
  by_cases c : dd_isP p = 0
  · rw [if_pos c, if_pos c]
  · obtain ⟨j, hj, rfl⟩ := dd_isP_of c
    rw [if_neg c, if_neg c, nI_clamp (by omega), ← dd_of_eq h (by omega) hj]
    obtain ⟨h1, h2, h3, h4, h5⟩ := h j hj
    have hc := dd_cnt_le mf (nI j) mv
    unfold dd_tdS
    rw [h1, h5]
    by_cases c0 : op j = 0
    · rw [if_neg (not_not_intro c0), if_neg (not_not_intro c0)]
      have e4 : dd_ofS ss j 4 = lN (dd_cnt mf (nI j) mv) := by
        unfold dd_ofS
        rw [if_neg (by decide), if_neg (by decide), if_neg (by decide), if_neg (by decide), if_pos rfl, h5, nI_l (by omega)]
      rw [e4]
      by_cases cz : dd_cnt mf (nI j) mv = 0
      · rw [cz, if_pos (by decide), if_pos (by decide)]
      · have n1 : ¬ nI (dd_cnt mf (nI j) mv) ≤ 0 := nI_nle (by omega) (by omega)
        have n2 : ¬ lN (dd_cnt mf (nI j) mv) ≤ 0 := by
          intro z
          have := (lN_le (a := dd_cnt mf (nI j) mv) (b := 0) (by omega) (by decide)).mp z
          omega
        rw [if_neg n1, if_neg (by decide), if_neg n2]
    · rw [if_pos c0, if_pos c0, if_neg (by decide)]
theorem dd_ok_eq {ss : dd_SS} {op : Nat → Int64} {mf : Nat → Int32} {mb : Nat → Int64} {mv : Nat} (h : dd_RS ss op mf mb mv) (hmv : mv < 2 ^ 31) (p : Int32) (v : Int64) : dd_okD ss p v = dd_okM op mf mb mv p v := by
  unfold dd_okD dd_okM
  by_cases c : dd_isP p = 0
  · rw [if_pos c, if_pos c]
  · obtain ⟨j, hj, rfl⟩ := dd_isP_of c
    have r1 := dd_of_eq h hmv hj 1
    have r2 := dd_of_eq h hmv hj 2
    have r3 := dd_of_eq h hmv hj 3
    have s1 : dd_ofS ss j 1 = ss.2.1 j := rfl
    have s2 : dd_ofS ss j 2 = ss.2.2.1 j := rfl
    have s3 : dd_ofS ss j 3 = ss.2.2.2.1 j := rfl
    rw [if_neg c, if_neg c, nI_clamp (by omega), ← r1, ← r2, ← r3, s1, s2, s3]
    unfold dd_cnS
    have ew : dd_inW v 10000000000000000 = if v < -10000000000000000 then 0 else if 10000000000000000 < v then 0 else 1 := rfl
    rw [ew]
    by_cases a1 : v < -10000000000000000
    · rw [if_pos a1, if_pos a1, if_pos rfl, if_neg (by decide)]
    · rw [if_neg a1, if_neg a1]
      by_cases a2 : 10000000000000000 < v
      · rw [if_pos a2, if_pos a2, if_pos rfl, if_neg (by decide)]
      · rw [if_neg a2, if_neg a2, if_neg (show ¬ (1 : Int32) = 0 by decide)]
        by_cases a3 : dd_inW (ss.2.2.2.1 j + v) 9000000000000000000 = 0
        · rw [if_pos a3, if_pos a3, if_neg (by decide)]
        · rw [if_neg a3, if_neg a3]
          by_cases a4 : dd_inW (if 0 ≤ v then ss.2.2.1 j + v else ss.2.1 j - v) 9000000000000000000 = 0
          · rw [if_pos a4, if_neg (by decide), if_neg (not_not_intro a4)]
          · rw [if_neg a4, if_pos (by decide), if_pos a4]
/-! a move -/
theorem dd_mW_cg {mf mf' : Nat → Int32} {mb mb' : Nat → Int64} (p : Int32) : ∀ n, (∀ i, i < n → mf' i = mf i ∧ mb' i = mb i) → dd_mW mf' mb' p n = dd_mW mf mb p n := by
  intro n
  induction n with
  | zero => intro _; rfl
  | succ n ih =>
    intro h
    obtain ⟨a, b⟩ := h n (by omega)
    unfold dd_mW
    rw [ih (fun i hi => h i (by omega)), a, b]
theorem dd_mC_cg {mf mf' : Nat → Int32} {mb mb' : Nat → Int64} (p : Int32) : ∀ n, (∀ i, i < n → mf' i = mf i ∧ mb' i = mb i) → dd_mC mf' mb' p n = dd_mC mf mb p n := by
  intro n
  induction n with
  | zero => intro _; rfl
  | succ n ih =>
    intro h
    obtain ⟨a, b⟩ := h n (by omega)
    unfold dd_mC
    rw [ih (fun i hi => h i (by omega)), a, b]
theorem dd_cnt_cg {mf mf' : Nat → Int32} (p : Int32) : ∀ n, (∀ i, i < n → mf' i = mf i) → dd_cnt mf' p n = dd_cnt mf p n := by
  intro n
  induction n with
  | zero => intro _; rfl
  | succ n ih =>
    intro h
    unfold dd_cnt
    rw [ih (fun i hi => h i (by omega)), h n (by omega)]
theorem dd_l_ring1 (o w c v : Int64) : o - w + c + v = o - w + (c + v) := by rw [Int64.add_assoc]
theorem dd_l_ring2 (o w c v : Int64) : o - w + c + v = o - (w - v) + c := by
  apply Int64.toBitVec_inj.mp
  simp only [Int64.toBitVec_add, Int64.toBitVec_sub]
  generalize o.toBitVec = O
  generalize w.toBitVec = X
  generalize c.toBitVec = C
  generalize v.toBitVec = V
  bv_omega
theorem dd_l_le {v : Int64} (h : 0 ≤ v) (h2 : ¬ v = 0) : ¬ v ≤ 0 := by
  intro z
  apply h2
  apply Int64.toInt_inj.mp
  rw [Int64.le_iff_toInt_le] at h z
  omega
theorem dd_l_lt {v : Int64} (h : ¬ 0 ≤ v) : v ≤ 0 := by
  rw [Int64.le_iff_toInt_le] at h ⊢
  omega
theorem dd_RS_mv {ss : dd_SS} {op : Nat → Int64} {mf : Nat → Int32} {mb : Nat → Int64} {mv : Nat} (h : dd_RS ss op mf mb mv) {j : Nat} (hj : j < 200) {v : Int64} (hv : ¬ v = 0) : dd_RS (dd_mvS ss j v) op (upd mf mv (nI j)) (vp_updL mb mv v) (mv + 1) := by
  intro q hq
  obtain ⟨h1, h2, h3, h4, h5⟩ := h q hq
  have cg : ∀ i, i < mv → upd mf mv (nI j) i = mf i ∧ vp_updL mb mv v i = mb i := fun i hi => ⟨pk_un (by omega), pk_uLn (by omega)⟩
  have w0 := dd_mW_cg (nI q) mv cg
  have c0 := dd_mC_cg (nI q) mv cg
  have n0 := dd_cnt_cg (nI q) mv (fun i hi => (cg i hi).1)
  have em : upd mf mv (nI j) mv = nI j := pk_us
  have eb : vp_updL mb mv v mv = v := pk_uLs
  by_cases e : q = j
  · subst e
    have W1 : dd_mW (upd mf mv (nI q)) (vp_updL mb mv v) (nI q) (mv + 1) = if 0 ≤ v then dd_mW mf mb (nI q) mv else dd_mW mf mb (nI q) mv - v := by
      rw [dd_mW, if_neg (not_not_intro em), eb, w0]
    have C1 : dd_mC (upd mf mv (nI q)) (vp_updL mb mv v) (nI q) (mv + 1) = if v ≤ 0 then dd_mC mf mb (nI q) mv else dd_mC mf mb (nI q) mv + v := by
      rw [dd_mC, if_neg (not_not_intro em), eb, c0]
    have N1 : dd_cnt (upd mf mv (nI q)) (nI q) (mv + 1) = dd_cnt mf (nI q) mv + 1 := by
      rw [dd_cnt, if_neg (not_not_intro em), n0]
    refine ⟨h1, ?_, ?_, ?_, ?_⟩
    · show vp_updL ss.2.1 q (ss.2.1 q - (if 0 ≤ v then 0 else v)) q = _
      rw [pk_uLs, W1, h2]
      by_cases p : 0 ≤ v
      · rw [if_pos p, if_pos p, Int64.sub_zero]
      · rw [if_neg p, if_neg p]
    · show vp_updL ss.2.2.1 q (ss.2.2.1 q + (if v ≤ 0 then 0 else v)) q = _
      rw [pk_uLs, C1, h3]
      by_cases p : v ≤ 0
      · rw [if_pos p, if_pos p, Int64.add_zero]
      · rw [if_neg p, if_neg p]
    · show vp_updL ss.2.2.2.1 q (ss.2.2.2.1 q + v) q = dd_nwM op (upd mf mv (nI q)) (vp_updL mb mv v) (mv + 1) q
      unfold dd_nwM
      rw [pk_uLs, W1, C1, h4]
      unfold dd_nwM
      by_cases p : 0 ≤ v
      · rw [if_pos p, if_neg (dd_l_le p hv)]
        exact dd_l_ring1 _ _ _ _
      · rw [if_neg p, if_pos (dd_l_lt p)]
        exact dd_l_ring2 _ _ _ _
    · show upd ss.2.2.2.2 q (ss.2.2.2.2 q + (if v = 0 then 0 else 1)) q = _
      rw [pk_us, N1, h5, if_neg hv, nI_1]
  · have en : ¬ upd mf mv (nI j) mv = nI q := by
      rw [em]
      intro z
      exact e ((nI_eq (by omega) (by omega)).mp z).symm
    have W1 : dd_mW (upd mf mv (nI j)) (vp_updL mb mv v) (nI q) (mv + 1) = dd_mW mf mb (nI q) mv := by rw [dd_mW, if_pos en, w0]
    have C1 : dd_mC (upd mf mv (nI j)) (vp_updL mb mv v) (nI q) (mv + 1) = dd_mC mf mb (nI q) mv := by rw [dd_mC, if_pos en, c0]
    have N1 : dd_cnt (upd mf mv (nI j)) (nI q) (mv + 1) = dd_cnt mf (nI q) mv := by rw [dd_cnt, if_pos en, n0]
    refine ⟨h1, ?_, ?_, ?_, ?_⟩
    · show vp_updL ss.2.1 j _ q = _
      rw [pk_uLn e, W1, h2]
    · show vp_updL ss.2.2.1 j _ q = _
      rw [pk_uLn e, C1, h3]
    · show vp_updL ss.2.2.2.1 j _ q = dd_nwM op (upd mf mv (nI j)) (vp_updL mb mv v) (mv + 1) q
      unfold dd_nwM
      rw [pk_uLn e, W1, C1, h4]
      rfl
    · show upd ss.2.2.2.2 j _ q = _
      rw [pk_un e, N1, h5]
theorem dd_RS_mv0 {ss : dd_SS} {op : Nat → Int64} {mf : Nat → Int32} {mb : Nat → Int64} {mv : Nat} (h : dd_RS ss op mf mb mv) (j : Nat) : dd_RS (dd_mvS ss j 0) op mf mb mv := by
  intro q hq
  obtain ⟨h1, h2, h3, h4, h5⟩ := h q hq
  refine ⟨h1, ?_, ?_, ?_, ?_⟩
  · show vp_updL ss.2.1 j (ss.2.1 j - 0) q = _
    rw [Int64.sub_zero, ← h2]
    by_cases e : q = j
    · rw [e]; exact pk_uLs
    · exact pk_uLn e
  · show vp_updL ss.2.2.1 j (ss.2.2.1 j + 0) q = _
    rw [Int64.add_zero, ← h3]
    by_cases e : q = j
    · rw [e]; exact pk_uLs
    · exact pk_uLn e
  · show vp_updL ss.2.2.2.1 j (ss.2.2.2.1 j + 0) q = _
    rw [Int64.add_zero, ← h4]
    by_cases e : q = j
    · rw [e]; exact pk_uLs
    · exact pk_uLn e
  · show upd ss.2.2.2.2 j (ss.2.2.2.2 j + 0) q = _
    rw [Int32.add_zero, ← h5]
    by_cases e : q = j
    · rw [e]; exact pk_us
    · exact pk_un e
def dd_mvR (ok : Int32) (v : Int64) : Int32 := if ok = 0 then -1 else if v = 0 then 0 else 1
def dd_mvD (ok : Int32) (v : Int64) (ss : dd_SS) (j : Nat) : dd_SS := if ok = 0 then ss else dd_mvS ss j v
def dd_mvN (ok : Int32) (v : Int64) (mv : Nat) : Nat := if ok = 0 then mv else if v = 0 then mv else mv + 1
def dd_mvF (ok : Int32) (v : Int64) (mf : Nat → Int32) (mv : Nat) (q : Int32) : Nat → Int32 := if ok = 0 then mf else if v = 0 then mf else upd mf mv q
def dd_mvB (ok : Int32) (v : Int64) (mb : Nat → Int64) (mv : Nat) : Nat → Int64 := if ok = 0 then mb else if v = 0 then mb else vp_updL mb mv v
theorem dd_mvD_of {r ok : Int32} {v : Int64} {ss u : dd_SS} {j : Nat} (h : (r = -1 ∧ ok = 0 ∧ u = ss) ∨ (¬ ok = 0 ∧ v = 0 ∧ r = 0 ∧ u = dd_mvS ss j v) ∨ (¬ ok = 0 ∧ ¬ v = 0 ∧ r = 1 ∧ u = dd_mvS ss j v)) : r = dd_mvR ok v ∧ u = dd_mvD ok v ss j := by
  unfold dd_mvR dd_mvD
  rcases h with ⟨a, b, c⟩ | ⟨a, b, c, d⟩ | ⟨a, b, c, d⟩
  · rw [if_pos b, if_pos b]; exact ⟨a, c⟩
  · rw [if_neg a, if_neg a, if_pos b]; exact ⟨c, d⟩
  · rw [if_neg a, if_neg a, if_neg b]; exact ⟨c, d⟩
theorem dd_mvM_of {r ok q : Int32} {v tk : Int64} {op : Nat → Int64} {mv : Nat} {mf : Nat → Int32} {mb : Nat → Int64} {wr : Int32} {tx : Nat → Int32} {u : dd_MS} (h : (r = -1 ∧ ok = 0 ∧ u = (tk, op, nI mv, mf, mb, wr, tx)) ∨ (¬ ok = 0 ∧ v = 0 ∧ r = 0 ∧ u = (tk, op, nI mv, mf, mb, wr, tx)) ∨ (¬ ok = 0 ∧ ¬ v = 0 ∧ r = 1 ∧ u = (tk, op, nI (mv + 1), upd mf mv q, vp_updL mb mv v, wr, tx))) : r = dd_mvR ok v ∧ u = (tk, op, nI (dd_mvN ok v mv), dd_mvF ok v mf mv q, dd_mvB ok v mb mv, wr, tx) := by
  unfold dd_mvR dd_mvN dd_mvF dd_mvB
  rcases h with ⟨a, b, c⟩ | ⟨a, b, c, d⟩ | ⟨a, b, c, d⟩
  · rw [if_pos b, if_pos b, if_pos b, if_pos b]; exact ⟨a, c⟩
  · rw [if_neg a, if_neg a, if_neg a, if_neg a, if_pos b, if_pos b, if_pos b, if_pos b]; exact ⟨c, d⟩
  · rw [if_neg a, if_neg a, if_neg a, if_neg a, if_neg b, if_neg b, if_neg b, if_neg b]; exact ⟨c, d⟩
theorem dd_RS_move {ss : dd_SS} {op : Nat → Int64} {mf : Nat → Int32} {mb : Nat → Int64} {mv : Nat} (h : dd_RS ss op mf mb mv) (hmv : mv < 2 ^ 31) (q : Int32) (v : Int64) : dd_RS (dd_mvD (dd_okD ss q v) v ss q.toNatClampNeg) op (dd_mvF (dd_okM op mf mb mv q v) v mf mv q) (dd_mvB (dd_okM op mf mb mv q v) v mb mv) (dd_mvN (dd_okM op mf mb mv q v) v mv) := by
  rw [dd_ok_eq h hmv]
  unfold dd_mvD dd_mvF dd_mvB dd_mvN
  by_cases c : dd_okM op mf mb mv q v = 0
  · rw [if_pos c, if_pos c, if_pos c, if_pos c]; exact h
  · have cp : ¬ dd_isP q = 0 := by
      intro z
      apply c
      unfold dd_okM
      rw [if_pos z]
    obtain ⟨j, hj, rfl⟩ := dd_isP_of cp
    rw [if_neg c, if_neg c, if_neg c, if_neg c, nI_clamp (by omega)]
    by_cases e : v = 0
    · subst e
      rw [if_pos rfl, if_pos rfl, if_pos rfl]
      exact dd_RS_mv0 h j
    · rw [if_neg e, if_neg e, if_neg e]
      exact dd_RS_mv h hj e
theorem dd_mvN_le (ok : Int32) (v : Int64) {mv i : Nat} (h : mv ≤ i) : dd_mvN ok v mv ≤ i + 1 := by
  unfold dd_mvN
  split
  · omega
  · split <;> omega
/-! the whole relation -/
def dd_R (i : Nat) (day tick : Int32) (ss : dd_SS) (bt : Nat → Int32) (tk : Int64) (op : Nat → Int64) (mv : Nat) (mf : Nat → Int32) (mb : Nat → Int64) (z : Nat) (tx : Nat → Int32) : Prop := (∃ T, T ≤ 100000 * i ∧ dd_RT T day tick tk) ∧ mv ≤ i ∧ dd_RS ss op mf mb mv ∧ z ≤ 120 ∧ ∀ q, q < z → bt q = tx q
theorem dd_R.keep {i : Nat} {day tick : Int32} {ss : dd_SS} {bt : Nat → Int32} {tk : Int64} {op : Nat → Int64} {mv : Nat} {mf : Nat → Int32} {mb : Nat → Int64} {z : Nat} {tx : Nat → Int32} (h : dd_R i day tick ss bt tk op mv mf mb z tx) : dd_R (i + 1) day tick ss bt tk op mv mf mb z tx := by
  obtain ⟨⟨T, h1, h2⟩, h3, h4⟩ := h
  exact ⟨⟨T, by omega, h2⟩, by omega, h4⟩
theorem dd_R.tk0 {i : Nat} {day tick : Int32} {ss : dd_SS} {bt : Nat → Int32} {tk : Int64} {op : Nat → Int64} {mv : Nat} {mf : Nat → Int32} {mb : Nat → Int64} {z : Nat} {tx : Nat → Int32} (h : dd_R i day tick ss bt tk op mv mf mb z tx) (hi : i ≤ 512) : dd_tkM tk = tick ∧ 0 ≤ tick := by
  obtain ⟨⟨T, h1, h2⟩, h3, h4⟩ := h
  refine ⟨dd_RT_tk h2 (by omega), ?_⟩
  rw [h2.2.1]
  exact nI_pos' (by omega)
theorem dd_R.pass {i : Nat} {day tick : Int32} {ss : dd_SS} {bt : Nat → Int32} {tk : Int64} {op : Nat → Int64} {mv : Nat} {mf : Nat → Int32} {mb : Nat → Int64} {z : Nat} {tx : Nat → Int32} (h : dd_R i day tick ss bt tk op mv mf mb z tx) (hi : i ≤ 512) : dd_R (i + 1) (dd_nxd tick day) (dd_nxt tick) (dd_psS tick ss) bt (tk + 1) (dd_psOp tk op mf mb mv) (dd_psMv tk mv) mf mb z tx ∧ dd_pv (dd_nxt tick) = dd_pv (dd_tkM (tk + 1)) := by
  obtain ⟨⟨T, h1, h2⟩, h3, h4, h5⟩ := h
  obtain ⟨a, b⟩ := dd_RT_step h2 (by omega)
  have := dd_psMv_le tk mv
  exact ⟨⟨⟨T + 1, by omega, a⟩, by omega, dd_RS_step h4 b, h5⟩, by rw [b]⟩
theorem dd_R.skip {i : Nat} {day tick : Int32} {ss : dd_SS} {bt : Nat → Int32} {tk : Int64} {op : Nat → Int64} {mv : Nat} {mf : Nat → Int32} {mb : Nat → Int64} {z : Nat} {tx : Nat → Int32} (h : dd_R i day tick ss bt tk op mv mf mb z tx) (hi : i ≤ 512) {N : Nat} (hN : N ≤ 100000) : dd_R (i + 1) (dd_itD day tick ss N).1 (dd_itD day tick ss N).2.1 (dd_itD day tick ss N).2.2.1 bt (dd_itM mf mb tk op mv N).1 (dd_itM mf mb tk op mv N).2.1 (dd_itM mf mb tk op mv N).2.2.1 mf mb z tx ∧ (dd_itD day tick ss N).2.2.2 = (dd_itM mf mb tk op mv N).2.2.2 := by
  obtain ⟨⟨T, h1, h2⟩, h3, h4, h5⟩ := h
  obtain ⟨a, b, c⟩ := dd_it h2 h4 N (by omega)
  have := dd_itM_le mf mb tk op mv N
  exact ⟨⟨⟨T + N, by omega, a⟩, by omega, b, h5⟩, c⟩
theorem dd_R.move {i : Nat} {day tick : Int32} {ss : dd_SS} {bt : Nat → Int32} {tk : Int64} {op : Nat → Int64} {mv : Nat} {mf : Nat → Int32} {mb : Nat → Int64} {z : Nat} {tx : Nat → Int32} (h : dd_R i day tick ss bt tk op mv mf mb z tx) (hi : i ≤ 512) (q : Int32) (v : Int64) : dd_R (i + 1) day tick (dd_mvD (dd_okD ss q v) v ss q.toNatClampNeg) bt tk op (dd_mvN (dd_okM op mf mb mv q v) v mv) (dd_mvF (dd_okM op mf mb mv q v) v mf mv q) (dd_mvB (dd_okM op mf mb mv q v) v mb mv) z tx ∧ dd_mvR (dd_okD ss q v) v = dd_mvR (dd_okM op mf mb mv q v) v := by
  obtain ⟨⟨T, h1, h2⟩, h3, h4, h5⟩ := h
  exact ⟨⟨⟨T, by omega, h2⟩, dd_mvN_le _ _ h3, dd_RS_move h4 (by omega) q v, h5⟩, by rw [dd_ok_eq h4 (by omega)]⟩
theorem dd_R.text {i : Nat} {day tick : Int32} {ss : dd_SS} {bt : Nat → Int32} {tk : Int64} {op : Nat → Int64} {mv : Nat} {mf : Nat → Int32} {mb : Nat → Int64} {z : Nat} {tx : Nat → Int32} (h : dd_R i day tick ss bt tk op mv mf mb z tx) {L : List Int32} (hL : L.length ≤ 120) : dd_R (i + 1) day tick ss (dd_app bt 0 L) tk op mv mf mb L.length (dd_app tx 0 L) := by
  obtain ⟨⟨T, h1, h2⟩, h3, h4, h5⟩ := h
  refine ⟨⟨T, by omega, h2⟩, by omega, h4, hL, fun q hq => ?_⟩
  have a := dd_app_at L bt 0 q hq
  have b := dd_app_at L tx 0 q hq
  rw [Nat.zero_add] at a b
  rw [a, b]
theorem dd_R.at {i : Nat} {day tick : Int32} {ss : dd_SS} {bt : Nat → Int32} {tk : Int64} {op : Nat → Int64} {mv : Nat} {mf : Nat → Int32} {mb : Nat → Int64} {z : Nat} {tx : Nat → Int32} (h : dd_R i day tick ss bt tk op mv mf mb z tx) (x : Int32) : dd_atM bt z x = dd_atM tx z x := by
  obtain ⟨_, _, _, h4, h5⟩ := h
  unfold dd_atM
  by_cases c0 : x < 0
  · rw [if_pos c0, if_pos c0]
  · rw [if_neg c0, if_neg c0]
    by_cases c1 : nI z ≤ x
    · rw [if_pos c1, if_pos c1]
    · rw [if_neg c1, if_neg c1, h5 _ (dd_at_lt h4 c0 c1)]
theorem dd_R.start : dd_R 0 0 0 (fun _ => 0, fun _ => 0, fun _ => 0, fun _ => 0, fun _ => 0) (fun _ => 0) 0 (fun _ => 0) 0 (fun _ => 0) (fun _ => 0) 0 (fun _ => 0) := by
  refine ⟨⟨0, Nat.le_refl 0, ?_⟩, Nat.le_refl 0, fun q hq => ?_, by decide, fun q hq => absurd hq (Nat.not_lt_zero q)⟩
  · exact ⟨by decide, by decide, by decide⟩
  · refine ⟨rfl, rfl, rfl, ?_, nI_0.symm⟩
    show (0 : Int64) = 0 - 0 + 0
    decide
end
section
/-! the law: what the skeleton gives ahead of the walk -/
def lw_P (b : Addr) (xs : List Int32) (args : Array Value) (s : State) : Prop := args = #[.ref b] ∧ s.IntsAt b xs ∧ xs.length ≤ 2048 ∧ (Jvm.Cond.and given_1 narrow_1).before args s = true
def lw_Q (_ : Array Value) (s : State) (o : Outcome) (t : State) : Prop := o = .returned (some (.int 1)) ∧ Framed s o t [] 600000 7302250
def lw_Z (below : List Frame) (a : Array Value) (s : State) : State → Prop := fun t => ∃ o, t.status = .running ∧ Ended t below o ∧ lw_Q a s o t
/-- the law's own end, with 1 on the stack, nothing written that was there before, its room as the claim has it -/
theorem lw_ret {p : Program} {l : Launch} {e : Env} {s : State} {m : MethodId} {below : List Frame} {meth : Method} {c : Code} {b : Nat} (hx : p.tables.exec = Jvm.exec) (hb : c.code = code) (hr : meth.sig.returnType = ret) (hlocks : meth.locks = false) {pc : Nat} {H : Heap} {ls : Array Slot} (hdg : decode code pc = .ok (.ireturn, 1)) : W p l e room_1 s m #[Value.ref b] below meth c H [] 600000 7302250 (lw_Z below #[Value.ref b] s) (F0 m pc ls [.int 1]) := by
  intro T hT X
  obtain ⟨fs, hret, hrun, hended, hW, hframe⟩ := X.leave (v := some (.int 1)) (hlocks := hlocks) (fun h => by rw [hr] at h; cases h)
  have hmeth' : T.vm.method? m = some meth := X.method'
  refine ⟨T.setFrames fs, ?_, .returned (some (.int 1)), hrun, hended, rfl, ⟨_, rfl⟩, hW, hframe⟩
  jvm_step X.here [X.here.top, hx, hb, hdg, hmeth', hr, ret, narrow_b1]
  (try refine ⟨rfl, ?_⟩); (try refine ⟨rfl, ?_⟩)
  first | (intro acts; rw [hret _ acts rfl rfl rfl]) | rw [hret _ _ rfl rfl rfl]
  exact Steps.refl _
/-- what holds at the law's entry: the machine, the code, the tables' words (any of lw_tbl by 'hts w (by decide +kernel)'), the script of L ints xs at the cell b, what the Statement gives of the start (any of its parts by flat_of_before) -/
def lw_At (p : Program) (s : State) (m : MethodId) (meth : Method) (c : Code) (b L : Nat) (xs : Nat → Int32) : Prop :=
  p.tables.exec = Jvm.exec ∧ c.code = code ∧ meth.sig.returnType = ret ∧ c.maxLocals = 4 ∧ s.vm.findClass R_law = some m.cls ∧ (∀ w ∈ lw_tbl, w.before #[Value.ref b] s = true) ∧ va_X b L xs s s.heap ∧ b < s.heap.size ∧ meth.locks = false ∧ (Jvm.Cond.and given_1 narrow_1).before #[Value.ref b] s = true
end
section
/-! the law: its loop -/
abbrev dd_ss0 : dd_SS := (fun _ => 0, fun _ => 0, fun _ => 0, fun _ => 0, fun _ => 0)
theorem dd_sld {p : Program} {l : Launch} {e : Env} {R : Room} {s : State} {m : MethodId} {args : Array Value} {below : List Frame} {meth : Method} {c : Code} {H : Heap} {locs : List Loc} {cells slots : Nat} {Q : State → Prop} {cc : ByteArray} {pc : Nat} {ls : Array Slot} {rest : List Value} {A : Nat → Prop} {H0 : Heap} (hexec : p.tables.exec = Jvm.exec) (hb : c.code = cc) {b L : Nat} {xs : Nat → Int32} (hX : va_X b L xs s H0) (hbl : b < H0.size) (hbA : ¬ A b) (hS : va_S A H0 H locs) {i : Int32} {j : Nat} (hi : i = nI j) (hj : j < L) (hL : L < 2 ^ 31) (hdg : decode cc pc = .ok (.iaload, 1))
    (kk : W p l e R s m args below meth c H locs cells slots Q (F0 m (pc + 1) ls (.int (xs j) :: rest))) : W p l e R s m args below meth c H locs cells slots Q (F0 m pc ls (.int i :: .ref b :: rest)) :=
  va_sld hexec hb hX hbl hbA hS (dd_vin hi hj hL) hdg (by rw [dd_clm hi hj hL]; exact kk)
theorem dd_lhead {L i : Nat} (hL : L ≤ 2048) (hi : 4 * i ≤ L) (h : ¬ Int32.ofNat L - 4 < nI (4 * i)) : 4 * i + 4 ≤ L := by
  have e1 : (Int32.ofNat L - 4).toInt = (L : Int) - 4 := pk_sub_toInt (a := L) (b := 4) (by omega) (by decide)
  have e2 : (nI (4 * i)).toInt = ((4 * i : Nat) : Int) := nI_toInt (by omega)
  rw [Int32.lt_iff_toInt_lt, e1, e2] at h
  omega
theorem dd_inc4 (i : Nat) : nI (4 * i) + Int32.ofInt 4 = nI (4 * (i + 1)) := by
  have : nI (4 * i) + Int32.ofInt 4 = nI (4 * i + 4) := nI_add (4 * i) 4
  rw [this, show 4 * (i + 1) = 4 * i + 4 by omega]
theorem dd_sw9 {x : Int32} (h0 : ¬ x = 0) (h1 : ¬ x = 1) (h2 : ¬ x = 2) (h3 : ¬ x = 3) (h4 : ¬ x = 4) (h5 : ¬ x = 5) (h6 : ¬ x = 6) (h7 : ¬ x = 7) (h8 : ¬ x = 8) : x.toInt < 0 ∨ 8 < x.toInt := by
  have e0 := lv_neT (a := 0) h0 (by decide)
  have e1 := lv_neT (a := 1) h1 (by decide)
  have e2 := lv_neT (a := 2) h2 (by decide)
  have e3 := lv_neT (a := 3) h3 (by decide)
  have e4 := lv_neT (a := 4) h4 (by decide)
  have e5 := lv_neT (a := 5) h5 (by decide)
  have e6 := lv_neT (a := 6) h6 (by decide)
  have e7 := lv_neT (a := 7) h7 (by decide)
  have e8 := lv_neT (a := 8) h8 (by decide)
  omega
theorem dd_skN {n : Int32} (h : ¬ (n < 1 ∨ ¬ n ≤ 100000)) : ∃ N : Nat, 1 ≤ N ∧ N ≤ 100000 ∧ n = nI N := by
  have h1 : ¬ n < 1 := fun z => h (Or.inl z)
  have h2 : n ≤ 100000 := Classical.not_not.mp (fun z => h (Or.inr z))
  rw [Int32.lt_iff_toInt_lt] at h1
  rw [Int32.le_iff_toInt_le] at h2
  have k1 : (1 : Int32).toInt = 1 := by decide
  have k2 : (100000 : Int32).toInt = 100000 := by decide
  refine ⟨n.toInt.toNat, by omega, by omega, ?_⟩
  apply Int32.toInt_inj.mp
  rw [nI_toInt (by omega)]
  omega
set_option maxHeartbeats 8000000 in
set_option maxRecDepth 100000 in
theorem law_loop {p : Program} {l : Launch} {e : Env} {s : State} {m : MethodId} {below : List Frame} {meth : Method} {c : Code} {b L : Nat} {xs : Nat → Int32} (hL : L ≤ 2048) (C0 : lw_At p s m meth c b L xs) (A : Nat → Prop) (hA : ∀ q : Nat, s.heap.size ≤ q → A q) (hA2 : ∀ q : Nat, A q → s.heap.size ≤ q) (D : va_G) (k : Nat → ClassId) (ad h : Nat → Nat) (hK : va_K D dd_cl (dd_ty k) s) (hN : dd_N s) (hE : dd_E ad A s s.heap)
    (ls : Array Slot) (H : Heap) (locs : List Loc) (hl : lv_has ls 4 [(3, .int (nI (4 * 0))), (2, .ref (h 12)), (1, .ref (h 0)), (0, .ref b)]) (hP : va_P D dd_cl [((h 0), .inr (0, [.ref (h 1), .ref (h 2), .ref (h 8)])), ((h 1), .inr (1, [.ref (h 11), .int 0, .int 0])), ((h 2), .inr (2, [.ref (h 3), .ref (h 4), .ref (h 5), .ref (h 6), .ref (h 7)])), ((h 3), .inl (k 0, 200, .inr (.inl dd_ss0.1))), ((h 4), .inl (k 0, 200, .inr (.inl dd_ss0.2.1))), ((h 5), .inl (k 0, 200, .inr (.inl dd_ss0.2.2.1))), ((h 6), .inl (k 0, 200, .inr (.inl dd_ss0.2.2.2.1))), ((h 7), .inl (k 1, 200, .inl dd_ss0.2.2.2.2)), ((h 8), .inr (3, [.ref (h 9), .ref (h 10), .int (nI 0)])), ((h 9), .inl (k 2, 120, .inl (fun _ => 0))), ((h 10), .inl (k 2, 20, .inl (fun _ => 0))), ((h 11), .inl (k 3, 5, .inr (.inr (.inr (.inr (fun i => some (ad i))))))), ((h 12), .inr (4, [.long 0, .ref (h 13), .int (nI 0), .ref (h 14), .ref (h 15), .int (nI 0), .ref (h 16)])), ((h 13), .inl (k 0, 200, .inr (.inl (fun _ => 0)))), ((h 14), .inl (k 1, 520, .inl (fun _ => 0))), ((h 15), .inl (k 0, 520, .inr (.inl (fun _ => 0)))), ((h 16), .inl (k 1, 120, .inl (fun _ => 0)))] H) (hD : va_D A [((h 0), .inr (0, [.ref (h 1), .ref (h 2), .ref (h 8)])), ((h 1), .inr (1, [.ref (h 11), .int 0, .int 0])), ((h 2), .inr (2, [.ref (h 3), .ref (h 4), .ref (h 5), .ref (h 6), .ref (h 7)])), ((h 3), .inl (k 0, 200, .inr (.inl dd_ss0.1))), ((h 4), .inl (k 0, 200, .inr (.inl dd_ss0.2.1))), ((h 5), .inl (k 0, 200, .inr (.inl dd_ss0.2.2.1))), ((h 6), .inl (k 0, 200, .inr (.inl dd_ss0.2.2.2.1))), ((h 7), .inl (k 1, 200, .inl dd_ss0.2.2.2.2)), ((h 8), .inr (3, [.ref (h 9), .ref (h 10), .int (nI 0)])), ((h 9), .inl (k 2, 120, .inl (fun _ => 0))), ((h 10), .inl (k 2, 20, .inl (fun _ => 0))), ((h 11), .inl (k 3, 5, .inr (.inr (.inr (.inr (fun i => some (ad i))))))), ((h 12), .inr (4, [.long 0, .ref (h 13), .int (nI 0), .ref (h 14), .ref (h 15), .int (nI 0), .ref (h 16)])), ((h 13), .inl (k 0, 200, .inr (.inl (fun _ => 0)))), ((h 14), .inl (k 1, 520, .inl (fun _ => 0))), ((h 15), .inl (k 0, 520, .inr (.inl (fun _ => 0)))), ((h 16), .inl (k 1, 120, .inl (fun _ => 0)))]) (hS : va_S A s.heap H locs) : W p l e room_1 s m #[Value.ref b] below meth c H locs 600000 7302250 (lw_Z below #[Value.ref b] s) (F0 m 18 ls []) := by
  obtain ⟨hx, hb, hr, hml, hown0, hts, hX, hbl, hlocks, hgv⟩ := C0
  have htb : ∀ w ∈ dd_gt, w.before #[Value.ref b] s = true := fun w h => hts w (List.mem_filter.mp h).1
  have hown : s.vm.findClass "DayDeskLaw" = some m.cls := hown0
  have hbA : ¬ A b := fun z => absurd (hA2 b z) (Nat.not_le.mpr hbl)
  refine dd_loop (α := Array Slot × Nat × Int32 × Int32 × dd_SS × (Nat → Int32) × (Nat → Int32) × Int64 × (Nat → Int64) × Nat × (Nat → Int32) × (Nat → Int64) × Nat × (Nat → Int32)) (I := fun a H locs => (lv_has a.1 4 [(3, .int (nI (4 * a.2.1))), (2, .ref (h 12)), (1, .ref (h 0)), (0, .ref b)]) ∧ (4 * a.2.1 ≤ L) ∧ (dd_R a.2.1 a.2.2.1 a.2.2.2.1 a.2.2.2.2.1 a.2.2.2.2.2.1 a.2.2.2.2.2.2.2.1 a.2.2.2.2.2.2.2.2.1 a.2.2.2.2.2.2.2.2.2.1 a.2.2.2.2.2.2.2.2.2.2.1 a.2.2.2.2.2.2.2.2.2.2.2.1 a.2.2.2.2.2.2.2.2.2.2.2.2.1 a.2.2.2.2.2.2.2.2.2.2.2.2.2) ∧ (va_P D dd_cl [((h 0), .inr (0, [.ref (h 1), .ref (h 2), .ref (h 8)])), ((h 1), .inr (1, [.ref (h 11), .int a.2.2.1, .int a.2.2.2.1])), ((h 2), .inr (2, [.ref (h 3), .ref (h 4), .ref (h 5), .ref (h 6), .ref (h 7)])), ((h 3), .inl (k 0, 200, .inr (.inl a.2.2.2.2.1.1))), ((h 4), .inl (k 0, 200, .inr (.inl a.2.2.2.2.1.2.1))), ((h 5), .inl (k 0, 200, .inr (.inl a.2.2.2.2.1.2.2.1))), ((h 6), .inl (k 0, 200, .inr (.inl a.2.2.2.2.1.2.2.2.1))), ((h 7), .inl (k 1, 200, .inl a.2.2.2.2.1.2.2.2.2)), ((h 8), .inr (3, [.ref (h 9), .ref (h 10), .int (nI a.2.2.2.2.2.2.2.2.2.2.2.2.1)])), ((h 9), .inl (k 2, 120, .inl a.2.2.2.2.2.1)), ((h 10), .inl (k 2, 20, .inl a.2.2.2.2.2.2.1)), ((h 11), .inl (k 3, 5, .inr (.inr (.inr (.inr (fun i => some (ad i))))))), ((h 12), .inr (4, [.long a.2.2.2.2.2.2.2.1, .ref (h 13), .int (nI a.2.2.2.2.2.2.2.2.2.1), .ref (h 14), .ref (h 15), .int (nI a.2.2.2.2.2.2.2.2.2.2.2.2.1), .ref (h 16)])), ((h 13), .inl (k 0, 200, .inr (.inl a.2.2.2.2.2.2.2.2.1))), ((h 14), .inl (k 1, 520, .inl a.2.2.2.2.2.2.2.2.2.2.1)), ((h 15), .inl (k 0, 520, .inr (.inl a.2.2.2.2.2.2.2.2.2.2.2.1))), ((h 16), .inl (k 1, 120, .inl a.2.2.2.2.2.2.2.2.2.2.2.2.2))] H) ∧ (va_D A [((h 0), .inr (0, [.ref (h 1), .ref (h 2), .ref (h 8)])), ((h 1), .inr (1, [.ref (h 11), .int a.2.2.1, .int a.2.2.2.1])), ((h 2), .inr (2, [.ref (h 3), .ref (h 4), .ref (h 5), .ref (h 6), .ref (h 7)])), ((h 3), .inl (k 0, 200, .inr (.inl a.2.2.2.2.1.1))), ((h 4), .inl (k 0, 200, .inr (.inl a.2.2.2.2.1.2.1))), ((h 5), .inl (k 0, 200, .inr (.inl a.2.2.2.2.1.2.2.1))), ((h 6), .inl (k 0, 200, .inr (.inl a.2.2.2.2.1.2.2.2.1))), ((h 7), .inl (k 1, 200, .inl a.2.2.2.2.1.2.2.2.2)), ((h 8), .inr (3, [.ref (h 9), .ref (h 10), .int (nI a.2.2.2.2.2.2.2.2.2.2.2.2.1)])), ((h 9), .inl (k 2, 120, .inl a.2.2.2.2.2.1)), ((h 10), .inl (k 2, 20, .inl a.2.2.2.2.2.2.1)), ((h 11), .inl (k 3, 5, .inr (.inr (.inr (.inr (fun i => some (ad i))))))), ((h 12), .inr (4, [.long a.2.2.2.2.2.2.2.1, .ref (h 13), .int (nI a.2.2.2.2.2.2.2.2.2.1), .ref (h 14), .ref (h 15), .int (nI a.2.2.2.2.2.2.2.2.2.2.2.2.1), .ref (h 16)])), ((h 13), .inl (k 0, 200, .inr (.inl a.2.2.2.2.2.2.2.2.1))), ((h 14), .inl (k 1, 520, .inl a.2.2.2.2.2.2.2.2.2.2.1)), ((h 15), .inl (k 0, 520, .inr (.inl a.2.2.2.2.2.2.2.2.2.2.2.1))), ((h 16), .inl (k 1, 120, .inl a.2.2.2.2.2.2.2.2.2.2.2.2.2))]) ∧ (va_S A s.heap H locs)) (g := fun a => F0 m 18 a.1 []) (μ := fun a => L - 4 * a.2.1) (fun a H locs hI ih18 => ?_) (ls, 0, 0, 0, dd_ss0, (fun _ => 0), (fun _ => 0), 0, (fun _ => 0), 0, (fun _ => 0), (fun _ => 0), 0, (fun _ => 0)) ⟨lv_sub hl [0, 1, 2, 3] rfl, Nat.zero_le L, dd_R.start, hP, hD, hS⟩
  obtain ⟨ls, i, day, tick, ss, bt, dg, tk, op, mv, mf, mb, z, tx⟩ := a
  obtain ⟨hl, hi, hR, hP, hD, hS⟩ := hI
  have hl : lv_has ls 4 [(3, .int (nI (4 * i))), (2, .ref (h 12)), (1, .ref (h 0)), (0, .ref b)] := hl
  have hi : 4 * i ≤ L := hi
  have hR : dd_R i day tick ss bt tk op mv mf mb z tx := hR
  have hP : va_P D dd_cl [((h 0), .inr (0, [.ref (h 1), .ref (h 2), .ref (h 8)])), ((h 1), .inr (1, [.ref (h 11), .int day, .int tick])), ((h 2), .inr (2, [.ref (h 3), .ref (h 4), .ref (h 5), .ref (h 6), .ref (h 7)])), ((h 3), .inl (k 0, 200, .inr (.inl ss.1))), ((h 4), .inl (k 0, 200, .inr (.inl ss.2.1))), ((h 5), .inl (k 0, 200, .inr (.inl ss.2.2.1))), ((h 6), .inl (k 0, 200, .inr (.inl ss.2.2.2.1))), ((h 7), .inl (k 1, 200, .inl ss.2.2.2.2)), ((h 8), .inr (3, [.ref (h 9), .ref (h 10), .int (nI z)])), ((h 9), .inl (k 2, 120, .inl bt)), ((h 10), .inl (k 2, 20, .inl dg)), ((h 11), .inl (k 3, 5, .inr (.inr (.inr (.inr (fun i => some (ad i))))))), ((h 12), .inr (4, [.long tk, .ref (h 13), .int (nI mv), .ref (h 14), .ref (h 15), .int (nI z), .ref (h 16)])), ((h 13), .inl (k 0, 200, .inr (.inl op))), ((h 14), .inl (k 1, 520, .inl mf)), ((h 15), .inl (k 0, 520, .inr (.inl mb))), ((h 16), .inl (k 1, 120, .inl tx))] H := hP
  have hD : va_D A [((h 0), .inr (0, [.ref (h 1), .ref (h 2), .ref (h 8)])), ((h 1), .inr (1, [.ref (h 11), .int day, .int tick])), ((h 2), .inr (2, [.ref (h 3), .ref (h 4), .ref (h 5), .ref (h 6), .ref (h 7)])), ((h 3), .inl (k 0, 200, .inr (.inl ss.1))), ((h 4), .inl (k 0, 200, .inr (.inl ss.2.1))), ((h 5), .inl (k 0, 200, .inr (.inl ss.2.2.1))), ((h 6), .inl (k 0, 200, .inr (.inl ss.2.2.2.1))), ((h 7), .inl (k 1, 200, .inl ss.2.2.2.2)), ((h 8), .inr (3, [.ref (h 9), .ref (h 10), .int (nI z)])), ((h 9), .inl (k 2, 120, .inl bt)), ((h 10), .inl (k 2, 20, .inl dg)), ((h 11), .inl (k 3, 5, .inr (.inr (.inr (.inr (fun i => some (ad i))))))), ((h 12), .inr (4, [.long tk, .ref (h 13), .int (nI mv), .ref (h 14), .ref (h 15), .int (nI z), .ref (h 16)])), ((h 13), .inl (k 0, 200, .inr (.inl op))), ((h 14), .inl (k 1, 520, .inl mf)), ((h 15), .inl (k 0, 520, .inr (.inl mb))), ((h 16), .inl (k 1, 120, .inl tx))] := hD
  have hS : va_S A s.heap H locs := hS
  refine W.eq (g2 := F0 m 18 ls []) rfl ?_
  have hi5 : i ≤ 512 := by omega
  have hmv := hR.2.1
  have hz := hR.2.2.2.1
  have hRS := hR.2.2.1
  refine lv_iload_n hx hb d_law_18 rfl (lv_at hl 0 rfl) ?_
  refine lv_aload_n hx hb d_law_19 rfl (lv_at hl 3 rfl) ?_
  refine va_slen hx hb hX hbl hbA hS d_law_20 ?_
  refine lv_iconst (v := 4) hx hb d_law_21 (by decide) ?_
  refine lv_isub hx hb d_law_22 ?_
  refine lv_icmp_gt (tgt := 374) hx hb d_law_23 (by decide) (fun c_1 => ?_) (fun c_1 => ?_)
  · refine lv_iconst (v := 1) hx hb d_law_374 (by decide) ?_
    refine va_forget (fun q hq => hA2 _ (hS.2.2 q hq)) ?_
    exact lw_ret hx hb hr hlocks d_law_375
  · have h4 : 4 * i + 4 ≤ L := dd_lhead hL hi c_1
    refine lv_aload_n hx hb d_law_26 rfl (lv_at hl 3 rfl) ?_
    refine lv_iload_n hx hb d_law_27 rfl (lv_at hl 0 rfl) ?_
    refine dd_sld (j := (4 * i)) hx hb hX hbl hbA hS rfl (by omega) (by omega) d_law_28 ?_
    refine lv_bipush (v := 15) hx hb d_law_29 (by decide) ?_
    refine lv_iand hx hb d_law_31 ?_
    generalize ((xs (4 * i)) &&& 15) = xw
    by_cases s_0 : xw = 0
    · subst s_0
      refine lv_tableIn (tgt := 84) hx hb d_law_32 (by decide) (by decide) rfl (by decide) ?_
      have hp2 := hR.pass hi5
      have hR2 := hp2.1
      refine lv_aload_n hx hb d_law_84 rfl (lv_at hl 2 rfl) ?_
      have hPc := hP.sub (ws' := [((h 0), .inr (0, [.ref (h 1), .ref (h 2), .ref (h 8)])), ((h 1), .inr (1, [.ref (h 11), .int day, .int tick])), ((h 2), .inr (2, [.ref (h 3), .ref (h 4), .ref (h 5), .ref (h 6), .ref (h 7)])), ((h 3), .inl (k 0, 200, .inr (.inl ss.1))), ((h 4), .inl (k 0, 200, .inr (.inl ss.2.1))), ((h 5), .inl (k 0, 200, .inr (.inl ss.2.2.1))), ((h 6), .inl (k 0, 200, .inr (.inl ss.2.2.2.1))), ((h 7), .inl (k 1, 200, .inl ss.2.2.2.2))]) [0, 1, 2, 3, 4, 5, 6, 7] rfl
      have hDc := hD.sub (ws' := [((h 0), .inr (0, [.ref (h 1), .ref (h 2), .ref (h 8)])), ((h 1), .inr (1, [.ref (h 11), .int day, .int tick])), ((h 2), .inr (2, [.ref (h 3), .ref (h 4), .ref (h 5), .ref (h 6), .ref (h 7)])), ((h 3), .inl (k 0, 200, .inr (.inl ss.1))), ((h 4), .inl (k 0, 200, .inr (.inl ss.2.1))), ((h 5), .inl (k 0, 200, .inr (.inl ss.2.2.1))), ((h 6), .inl (k 0, 200, .inr (.inl ss.2.2.2.1))), ((h 7), .inl (k 1, 200, .inl ss.2.2.2.2))]) [0, 1, 2, 3, 4, 5, 6, 7] (by decide) rfl
      refine dd_mi (wc := [((h 0), .inr (0, [.ref (h 1), .ref (h 2), .ref (h 8)])), ((h 1), .inr (1, [.ref (h 11), .int day, .int tick])), ((h 2), .inr (2, [.ref (h 3), .ref (h 4), .ref (h 5), .ref (h 6), .ref (h 7)])), ((h 3), .inl (k 0, 200, .inr (.inl ss.1))), ((h 4), .inl (k 0, 200, .inr (.inl ss.2.1))), ((h 5), .inl (k 0, 200, .inr (.inl ss.2.2.1))), ((h 6), .inl (k 0, 200, .inr (.inl ss.2.2.2.1))), ((h 7), .inl (k 1, 200, .inl ss.2.2.2.2))]) (wr := [((h 8), .inr (3, [.ref (h 9), .ref (h 10), .int (nI z)])), ((h 9), .inl (k 2, 120, .inl bt)), ((h 10), .inl (k 2, 20, .inl dg)), ((h 11), .inl (k 3, 5, .inr (.inr (.inr (.inr (fun i => some (ad i))))))), ((h 12), .inr (4, [.long tk, .ref (h 13), .int (nI mv), .ref (h 14), .ref (h 15), .int (nI z), .ref (h 16)])), ((h 13), .inl (k 0, 200, .inr (.inl op))), ((h 14), .inl (k 1, 520, .inl mf)), ((h 15), .inl (k 0, 520, .inr (.inl mb))), ((h 16), .inl (k 1, 120, .inl tx))]) (va_runV (As := []) (rest := []) ⟨hx, hb, hml, hown, htb⟩ (c_D_pass l D k h H.size day tick ss) (cwV 0 htb (dd_gV tb_100 tb_101 tb_102 tb_1 tb_103) rfl rfl rfl hd_D_pass ⟨Nat.le_of_ble_eq_true rfl, Nat.le_of_ble_eq_true rfl⟩) ⟨dd_PM.bl, va_recv hK hPc (ci := 0) (q0 := 0) rfl rfl, dd_PM.of hPc hDc hK hN⟩ rfl rfl hl.1 rfl (lv_room (Nat.le_of_ble_eq_true rfl)) d_law_85 ⟨Nat.le_of_ble_eq_true rfl, Nat.le_of_ble_eq_true rfl⟩) hP hD hS hA [0, 1, 2, 3, 4, 5, 6, 7] [8, 9, 10, 11, 12, 13, 14, 15, 16] rfl rfl (by decide) (by decide) (fun r_2 u H locs hw hP hD hS => ?_)
      obtain ⟨rfl, rfl⟩ := hw
      have hP : va_P D dd_cl [((h 0), .inr (0, [.ref (h 1), .ref (h 2), .ref (h 8)])), ((h 1), .inr (1, [.ref (h 11), .int (dd_nxd tick day), .int (dd_nxt tick)])), ((h 2), .inr (2, [.ref (h 3), .ref (h 4), .ref (h 5), .ref (h 6), .ref (h 7)])), ((h 3), .inl (k 0, 200, .inr (.inl ((dd_psS tick ss).1)))), ((h 4), .inl (k 0, 200, .inr (.inl ((dd_psS tick ss).2.1)))), ((h 5), .inl (k 0, 200, .inr (.inl ((dd_psS tick ss).2.2.1)))), ((h 6), .inl (k 0, 200, .inr (.inl ((dd_psS tick ss).2.2.2.1)))), ((h 7), .inl (k 1, 200, .inl ((dd_psS tick ss).2.2.2.2))), ((h 8), .inr (3, [.ref (h 9), .ref (h 10), .int (nI z)])), ((h 9), .inl (k 2, 120, .inl bt)), ((h 10), .inl (k 2, 20, .inl dg)), ((h 11), .inl (k 3, 5, .inr (.inr (.inr (.inr (fun i => some (ad i))))))), ((h 12), .inr (4, [.long tk, .ref (h 13), .int (nI mv), .ref (h 14), .ref (h 15), .int (nI z), .ref (h 16)])), ((h 13), .inl (k 0, 200, .inr (.inl op))), ((h 14), .inl (k 1, 520, .inl mf)), ((h 15), .inl (k 0, 520, .inr (.inl mb))), ((h 16), .inl (k 1, 120, .inl tx))] H := hP.sub [9, 10, 11, 12, 13, 14, 15, 16, 0, 1, 2, 3, 4, 5, 6, 7, 8] rfl
      have hD : va_D A [((h 0), .inr (0, [.ref (h 1), .ref (h 2), .ref (h 8)])), ((h 1), .inr (1, [.ref (h 11), .int (dd_nxd tick day), .int (dd_nxt tick)])), ((h 2), .inr (2, [.ref (h 3), .ref (h 4), .ref (h 5), .ref (h 6), .ref (h 7)])), ((h 3), .inl (k 0, 200, .inr (.inl ((dd_psS tick ss).1)))), ((h 4), .inl (k 0, 200, .inr (.inl ((dd_psS tick ss).2.1)))), ((h 5), .inl (k 0, 200, .inr (.inl ((dd_psS tick ss).2.2.1)))), ((h 6), .inl (k 0, 200, .inr (.inl ((dd_psS tick ss).2.2.2.1)))), ((h 7), .inl (k 1, 200, .inl ((dd_psS tick ss).2.2.2.2))), ((h 8), .inr (3, [.ref (h 9), .ref (h 10), .int (nI z)])), ((h 9), .inl (k 2, 120, .inl bt)), ((h 10), .inl (k 2, 20, .inl dg)), ((h 11), .inl (k 3, 5, .inr (.inr (.inr (.inr (fun i => some (ad i))))))), ((h 12), .inr (4, [.long tk, .ref (h 13), .int (nI mv), .ref (h 14), .ref (h 15), .int (nI z), .ref (h 16)])), ((h 13), .inl (k 0, 200, .inr (.inl op))), ((h 14), .inl (k 1, 520, .inl mf)), ((h 15), .inl (k 0, 520, .inr (.inl mb))), ((h 16), .inl (k 1, 120, .inl tx))] := hD.sub [9, 10, 11, 12, 13, 14, 15, 16, 0, 1, 2, 3, 4, 5, 6, 7, 8] (by decide) rfl
      refine lv_aload_n hx hb d_law_88 rfl (lv_at hl 1 rfl) ?_
      have hPc := hP.sub (ws' := [((h 12), .inr (4, [.long tk, .ref (h 13), .int (nI mv), .ref (h 14), .ref (h 15), .int (nI z), .ref (h 16)])), ((h 13), .inl (k 0, 200, .inr (.inl op))), ((h 14), .inl (k 1, 520, .inl mf)), ((h 15), .inl (k 0, 520, .inr (.inl mb))), ((h 16), .inl (k 1, 120, .inl tx))]) [12, 13, 14, 15, 16] rfl
      have hDc := hD.sub (ws' := [((h 12), .inr (4, [.long tk, .ref (h 13), .int (nI mv), .ref (h 14), .ref (h 15), .int (nI z), .ref (h 16)])), ((h 13), .inl (k 0, 200, .inr (.inl op))), ((h 14), .inl (k 1, 520, .inl mf)), ((h 15), .inl (k 0, 520, .inr (.inl mb))), ((h 16), .inl (k 1, 120, .inl tx))]) [12, 13, 14, 15, 16] (by decide) rfl
      refine dd_mi (wc := [((h 12), .inr (4, [.long tk, .ref (h 13), .int (nI mv), .ref (h 14), .ref (h 15), .int (nI z), .ref (h 16)])), ((h 13), .inl (k 0, 200, .inr (.inl op))), ((h 14), .inl (k 1, 520, .inl mf)), ((h 15), .inl (k 0, 520, .inr (.inl mb))), ((h 16), .inl (k 1, 120, .inl tx))]) (wr := [((h 0), .inr (0, [.ref (h 1), .ref (h 2), .ref (h 8)])), ((h 1), .inr (1, [.ref (h 11), .int (dd_nxd tick day), .int (dd_nxt tick)])), ((h 2), .inr (2, [.ref (h 3), .ref (h 4), .ref (h 5), .ref (h 6), .ref (h 7)])), ((h 3), .inl (k 0, 200, .inr (.inl ((dd_psS tick ss).1)))), ((h 4), .inl (k 0, 200, .inr (.inl ((dd_psS tick ss).2.1)))), ((h 5), .inl (k 0, 200, .inr (.inl ((dd_psS tick ss).2.2.1)))), ((h 6), .inl (k 0, 200, .inr (.inl ((dd_psS tick ss).2.2.2.1)))), ((h 7), .inl (k 1, 200, .inl ((dd_psS tick ss).2.2.2.2))), ((h 8), .inr (3, [.ref (h 9), .ref (h 10), .int (nI z)])), ((h 9), .inl (k 2, 120, .inl bt)), ((h 10), .inl (k 2, 20, .inl dg)), ((h 11), .inl (k 3, 5, .inr (.inr (.inr (.inr (fun i => some (ad i)))))))]) (va_runV (As := []) (rest := [.int (dd_pv (dd_nxt tick))]) ⟨hx, hb, hml, hown, htb⟩ (c_M_pass l D k h H.size tk op mv mf mb (nI z) tx (by omega)) (cwV 0 htb (dd_gV tb_236 tb_237 tb_238 tb_7 tb_239) rfl rfl rfl hd_M_pass ⟨Nat.le_of_ble_eq_true rfl, Nat.le_of_ble_eq_true rfl⟩) ⟨dd_PM.bl, va_recv hK hPc (ci := 4) (q0 := 0) rfl rfl, dd_PM.of hPc hDc hK hN⟩ rfl rfl hl.1 rfl (lv_room (Nat.le_of_ble_eq_true rfl)) d_law_89 ⟨Nat.le_of_ble_eq_true rfl, Nat.le_of_ble_eq_true rfl⟩) hP hD hS hA [12, 13, 14, 15, 16] [0, 1, 2, 3, 4, 5, 6, 7, 8, 9, 10, 11] rfl rfl (by decide) (by decide) (fun r_3 u H locs hw hP hD hS => ?_)
      obtain ⟨rfl, rfl⟩ := hw
      have hP : va_P D dd_cl [((h 0), .inr (0, [.ref (h 1), .ref (h 2), .ref (h 8)])), ((h 1), .inr (1, [.ref (h 11), .int (dd_nxd tick day), .int (dd_nxt tick)])), ((h 2), .inr (2, [.ref (h 3), .ref (h 4), .ref (h 5), .ref (h 6), .ref (h 7)])), ((h 3), .inl (k 0, 200, .inr (.inl ((dd_psS tick ss).1)))), ((h 4), .inl (k 0, 200, .inr (.inl ((dd_psS tick ss).2.1)))), ((h 5), .inl (k 0, 200, .inr (.inl ((dd_psS tick ss).2.2.1)))), ((h 6), .inl (k 0, 200, .inr (.inl ((dd_psS tick ss).2.2.2.1)))), ((h 7), .inl (k 1, 200, .inl ((dd_psS tick ss).2.2.2.2))), ((h 8), .inr (3, [.ref (h 9), .ref (h 10), .int (nI z)])), ((h 9), .inl (k 2, 120, .inl bt)), ((h 10), .inl (k 2, 20, .inl dg)), ((h 11), .inl (k 3, 5, .inr (.inr (.inr (.inr (fun i => some (ad i))))))), ((h 12), .inr (4, [.long (tk + 1), .ref (h 13), .int (nI (dd_psMv tk mv)), .ref (h 14), .ref (h 15), .int (nI z), .ref (h 16)])), ((h 13), .inl (k 0, 200, .inr (.inl (dd_psOp tk op mf mb mv)))), ((h 14), .inl (k 1, 520, .inl mf)), ((h 15), .inl (k 0, 520, .inr (.inl mb))), ((h 16), .inl (k 1, 120, .inl tx))] H := hP.sub [0, 1, 2, 3, 4, 5, 6, 7, 8, 9, 10, 11, 12, 13, 14, 15, 16] rfl
      have hD : va_D A [((h 0), .inr (0, [.ref (h 1), .ref (h 2), .ref (h 8)])), ((h 1), .inr (1, [.ref (h 11), .int (dd_nxd tick day), .int (dd_nxt tick)])), ((h 2), .inr (2, [.ref (h 3), .ref (h 4), .ref (h 5), .ref (h 6), .ref (h 7)])), ((h 3), .inl (k 0, 200, .inr (.inl ((dd_psS tick ss).1)))), ((h 4), .inl (k 0, 200, .inr (.inl ((dd_psS tick ss).2.1)))), ((h 5), .inl (k 0, 200, .inr (.inl ((dd_psS tick ss).2.2.1)))), ((h 6), .inl (k 0, 200, .inr (.inl ((dd_psS tick ss).2.2.2.1)))), ((h 7), .inl (k 1, 200, .inl ((dd_psS tick ss).2.2.2.2))), ((h 8), .inr (3, [.ref (h 9), .ref (h 10), .int (nI z)])), ((h 9), .inl (k 2, 120, .inl bt)), ((h 10), .inl (k 2, 20, .inl dg)), ((h 11), .inl (k 3, 5, .inr (.inr (.inr (.inr (fun i => some (ad i))))))), ((h 12), .inr (4, [.long (tk + 1), .ref (h 13), .int (nI (dd_psMv tk mv)), .ref (h 14), .ref (h 15), .int (nI z), .ref (h 16)])), ((h 13), .inl (k 0, 200, .inr (.inl (dd_psOp tk op mf mb mv)))), ((h 14), .inl (k 1, 520, .inl mf)), ((h 15), .inl (k 0, 520, .inr (.inl mb))), ((h 16), .inl (k 1, 120, .inl tx))] := hD.sub [0, 1, 2, 3, 4, 5, 6, 7, 8, 9, 10, 11, 12, 13, 14, 15, 16] (by decide) rfl
      refine lv_icmp_eq (tgt := 368) hx hb d_law_92 (by decide) (fun c_4 => ?_) (fun c_4 => ?_)
      · refine lv_iinc (v := (nI (4 * (i + 1)))) (lv' := [(3, .int (nI (4 * (i + 1)))), (2, .ref (h 12)), (1, .ref (h 0)), (0, .ref b)]) hx hb d_law_368 hl (k := 0) rfl (dd_inc4 i) (by decide) rfl (fun ls hl => ?_)
        refine lv_goto (tgt := 18) hx hb d_law_371 (by decide) ?_
        exact ih18 (ls, (i + 1), (dd_nxd tick day), (dd_nxt tick), (dd_psS tick ss), bt, dg, (tk + 1), (dd_psOp tk op mf mb mv), (dd_psMv tk mv), mf, mb, z, tx) _ _ ⟨lv_sub hl [0, 1, 2, 3] rfl, by omega, hR2, hP, hD, hS⟩ (by dsimp only; omega)
      · exact absurd hp2.2 c_4
    by_cases s_1 : xw = 1
    · subst s_1
      refine lv_tableIn (tgt := 97) hx hb d_law_32 (by decide) (by decide) rfl (by decide) ?_
      by_cases hbad : (xs (4 * i + 1)) < 1 ∨ ¬ (xs (4 * i + 1)) ≤ 100000
      · have hR2 := hR.keep
        refine lv_aload_n hx hb d_law_97 rfl (lv_at hl 2 rfl) ?_
        refine lv_aload_n hx hb d_law_98 rfl (lv_at hl 3 rfl) ?_
        refine lv_iload_n hx hb d_law_99 rfl (lv_at hl 0 rfl) ?_
        refine lv_iconst (v := 1) hx hb d_law_100 (by decide) ?_
        refine lv_iadd hx hb d_law_101 ?_
        refine dd_sld (j := (4 * i + 1)) hx hb hX hbl hbA hS (nI_1 _) (by omega) (by omega) d_law_102 ?_
        have hPc := hP.sub (ws' := [((h 0), .inr (0, [.ref (h 1), .ref (h 2), .ref (h 8)])), ((h 1), .inr (1, [.ref (h 11), .int day, .int tick])), ((h 2), .inr (2, [.ref (h 3), .ref (h 4), .ref (h 5), .ref (h 6), .ref (h 7)])), ((h 3), .inl (k 0, 200, .inr (.inl ss.1))), ((h 4), .inl (k 0, 200, .inr (.inl ss.2.1))), ((h 5), .inl (k 0, 200, .inr (.inl ss.2.2.1))), ((h 6), .inl (k 0, 200, .inr (.inl ss.2.2.2.1))), ((h 7), .inl (k 1, 200, .inl ss.2.2.2.2))]) [0, 1, 2, 3, 4, 5, 6, 7] rfl
        have hDc := hD.sub (ws' := [((h 0), .inr (0, [.ref (h 1), .ref (h 2), .ref (h 8)])), ((h 1), .inr (1, [.ref (h 11), .int day, .int tick])), ((h 2), .inr (2, [.ref (h 3), .ref (h 4), .ref (h 5), .ref (h 6), .ref (h 7)])), ((h 3), .inl (k 0, 200, .inr (.inl ss.1))), ((h 4), .inl (k 0, 200, .inr (.inl ss.2.1))), ((h 5), .inl (k 0, 200, .inr (.inl ss.2.2.1))), ((h 6), .inl (k 0, 200, .inr (.inl ss.2.2.2.1))), ((h 7), .inl (k 1, 200, .inl ss.2.2.2.2))]) [0, 1, 2, 3, 4, 5, 6, 7] (by decide) rfl
        refine dd_mi (wc := [((h 0), .inr (0, [.ref (h 1), .ref (h 2), .ref (h 8)])), ((h 1), .inr (1, [.ref (h 11), .int day, .int tick])), ((h 2), .inr (2, [.ref (h 3), .ref (h 4), .ref (h 5), .ref (h 6), .ref (h 7)])), ((h 3), .inl (k 0, 200, .inr (.inl ss.1))), ((h 4), .inl (k 0, 200, .inr (.inl ss.2.1))), ((h 5), .inl (k 0, 200, .inr (.inl ss.2.2.1))), ((h 6), .inl (k 0, 200, .inr (.inl ss.2.2.2.1))), ((h 7), .inl (k 1, 200, .inl ss.2.2.2.2))]) (wr := [((h 8), .inr (3, [.ref (h 9), .ref (h 10), .int (nI z)])), ((h 9), .inl (k 2, 120, .inl bt)), ((h 10), .inl (k 2, 20, .inl dg)), ((h 11), .inl (k 3, 5, .inr (.inr (.inr (.inr (fun i => some (ad i))))))), ((h 12), .inr (4, [.long tk, .ref (h 13), .int (nI mv), .ref (h 14), .ref (h 15), .int (nI z), .ref (h 16)])), ((h 13), .inl (k 0, 200, .inr (.inl op))), ((h 14), .inl (k 1, 520, .inl mf)), ((h 15), .inl (k 0, 520, .inr (.inl mb))), ((h 16), .inl (k 1, 120, .inl tx))]) (va_runV (As := [.int (xs (4 * i + 1))]) (rest := []) ⟨hx, hb, hml, hown, htb⟩ (c_D_skip_bad l D k h H.size day tick ss (xs (4 * i + 1)) hbad) (cwV 1 htb (dd_gV tb_115 tb_116 tb_117 tb_1 tb_118) rfl rfl rfl hd_D_skip ⟨Nat.le_of_ble_eq_true rfl, Nat.le_of_ble_eq_true rfl⟩) ⟨dd_PM.bl, va_recv hK hPc (ci := 0) (q0 := 0) rfl rfl, dd_PM.of hPc hDc hK hN⟩ rfl rfl hl.1 rfl (lv_room (Nat.le_of_ble_eq_true rfl)) d_law_103 ⟨Nat.le_of_ble_eq_true rfl, Nat.le_of_ble_eq_true rfl⟩) hP hD hS hA [0, 1, 2, 3, 4, 5, 6, 7] [8, 9, 10, 11, 12, 13, 14, 15, 16] rfl rfl (by decide) (by decide) (fun r_5 u H locs hw hP hD hS => ?_)
        obtain ⟨rfl, rfl⟩ := hw
        have hP : va_P D dd_cl [((h 0), .inr (0, [.ref (h 1), .ref (h 2), .ref (h 8)])), ((h 1), .inr (1, [.ref (h 11), .int day, .int tick])), ((h 2), .inr (2, [.ref (h 3), .ref (h 4), .ref (h 5), .ref (h 6), .ref (h 7)])), ((h 3), .inl (k 0, 200, .inr (.inl ss.1))), ((h 4), .inl (k 0, 200, .inr (.inl ss.2.1))), ((h 5), .inl (k 0, 200, .inr (.inl ss.2.2.1))), ((h 6), .inl (k 0, 200, .inr (.inl ss.2.2.2.1))), ((h 7), .inl (k 1, 200, .inl ss.2.2.2.2)), ((h 8), .inr (3, [.ref (h 9), .ref (h 10), .int (nI z)])), ((h 9), .inl (k 2, 120, .inl bt)), ((h 10), .inl (k 2, 20, .inl dg)), ((h 11), .inl (k 3, 5, .inr (.inr (.inr (.inr (fun i => some (ad i))))))), ((h 12), .inr (4, [.long tk, .ref (h 13), .int (nI mv), .ref (h 14), .ref (h 15), .int (nI z), .ref (h 16)])), ((h 13), .inl (k 0, 200, .inr (.inl op))), ((h 14), .inl (k 1, 520, .inl mf)), ((h 15), .inl (k 0, 520, .inr (.inl mb))), ((h 16), .inl (k 1, 120, .inl tx))] H := hP.sub [9, 10, 11, 12, 13, 14, 15, 16, 0, 1, 2, 3, 4, 5, 6, 7, 8] rfl
        have hD : va_D A [((h 0), .inr (0, [.ref (h 1), .ref (h 2), .ref (h 8)])), ((h 1), .inr (1, [.ref (h 11), .int day, .int tick])), ((h 2), .inr (2, [.ref (h 3), .ref (h 4), .ref (h 5), .ref (h 6), .ref (h 7)])), ((h 3), .inl (k 0, 200, .inr (.inl ss.1))), ((h 4), .inl (k 0, 200, .inr (.inl ss.2.1))), ((h 5), .inl (k 0, 200, .inr (.inl ss.2.2.1))), ((h 6), .inl (k 0, 200, .inr (.inl ss.2.2.2.1))), ((h 7), .inl (k 1, 200, .inl ss.2.2.2.2)), ((h 8), .inr (3, [.ref (h 9), .ref (h 10), .int (nI z)])), ((h 9), .inl (k 2, 120, .inl bt)), ((h 10), .inl (k 2, 20, .inl dg)), ((h 11), .inl (k 3, 5, .inr (.inr (.inr (.inr (fun i => some (ad i))))))), ((h 12), .inr (4, [.long tk, .ref (h 13), .int (nI mv), .ref (h 14), .ref (h 15), .int (nI z), .ref (h 16)])), ((h 13), .inl (k 0, 200, .inr (.inl op))), ((h 14), .inl (k 1, 520, .inl mf)), ((h 15), .inl (k 0, 520, .inr (.inl mb))), ((h 16), .inl (k 1, 120, .inl tx))] := hD.sub [9, 10, 11, 12, 13, 14, 15, 16, 0, 1, 2, 3, 4, 5, 6, 7, 8] (by decide) rfl
        refine lv_aload_n hx hb d_law_106 rfl (lv_at hl 1 rfl) ?_
        refine lv_aload_n hx hb d_law_107 rfl (lv_at hl 3 rfl) ?_
        refine lv_iload_n hx hb d_law_108 rfl (lv_at hl 0 rfl) ?_
        refine lv_iconst (v := 1) hx hb d_law_109 (by decide) ?_
        refine lv_iadd hx hb d_law_110 ?_
        refine dd_sld (j := (4 * i + 1)) hx hb hX hbl hbA hS (nI_1 _) (by omega) (by omega) d_law_111 ?_
        have hPc := hP.sub (ws' := [((h 12), .inr (4, [.long tk, .ref (h 13), .int (nI mv), .ref (h 14), .ref (h 15), .int (nI z), .ref (h 16)])), ((h 13), .inl (k 0, 200, .inr (.inl op))), ((h 14), .inl (k 1, 520, .inl mf)), ((h 15), .inl (k 0, 520, .inr (.inl mb))), ((h 16), .inl (k 1, 120, .inl tx))]) [12, 13, 14, 15, 16] rfl
        have hDc := hD.sub (ws' := [((h 12), .inr (4, [.long tk, .ref (h 13), .int (nI mv), .ref (h 14), .ref (h 15), .int (nI z), .ref (h 16)])), ((h 13), .inl (k 0, 200, .inr (.inl op))), ((h 14), .inl (k 1, 520, .inl mf)), ((h 15), .inl (k 0, 520, .inr (.inl mb))), ((h 16), .inl (k 1, 120, .inl tx))]) [12, 13, 14, 15, 16] (by decide) rfl
        refine dd_mi (wc := [((h 12), .inr (4, [.long tk, .ref (h 13), .int (nI mv), .ref (h 14), .ref (h 15), .int (nI z), .ref (h 16)])), ((h 13), .inl (k 0, 200, .inr (.inl op))), ((h 14), .inl (k 1, 520, .inl mf)), ((h 15), .inl (k 0, 520, .inr (.inl mb))), ((h 16), .inl (k 1, 120, .inl tx))]) (wr := [((h 0), .inr (0, [.ref (h 1), .ref (h 2), .ref (h 8)])), ((h 1), .inr (1, [.ref (h 11), .int day, .int tick])), ((h 2), .inr (2, [.ref (h 3), .ref (h 4), .ref (h 5), .ref (h 6), .ref (h 7)])), ((h 3), .inl (k 0, 200, .inr (.inl ss.1))), ((h 4), .inl (k 0, 200, .inr (.inl ss.2.1))), ((h 5), .inl (k 0, 200, .inr (.inl ss.2.2.1))), ((h 6), .inl (k 0, 200, .inr (.inl ss.2.2.2.1))), ((h 7), .inl (k 1, 200, .inl ss.2.2.2.2)), ((h 8), .inr (3, [.ref (h 9), .ref (h 10), .int (nI z)])), ((h 9), .inl (k 2, 120, .inl bt)), ((h 10), .inl (k 2, 20, .inl dg)), ((h 11), .inl (k 3, 5, .inr (.inr (.inr (.inr (fun i => some (ad i)))))))]) (va_runV (As := [.int (xs (4 * i + 1))]) (rest := [.int (-1)]) ⟨hx, hb, hml, hown, htb⟩ (c_M_skip_bad l D k h H.size tk op mv mf mb (nI z) tx (xs (4 * i + 1)) hbad) (cwV 1 htb (dd_gV tb_259 tb_260 tb_261 tb_7 tb_262) rfl rfl rfl hd_M_skip ⟨Nat.le_of_ble_eq_true rfl, Nat.le_of_ble_eq_true rfl⟩) ⟨dd_PM.bl, va_recv hK hPc (ci := 4) (q0 := 0) rfl rfl, dd_PM.of hPc hDc hK hN⟩ rfl rfl hl.1 rfl (lv_room (Nat.le_of_ble_eq_true rfl)) d_law_112 ⟨Nat.le_of_ble_eq_true rfl, Nat.le_of_ble_eq_true rfl⟩) hP hD hS hA [12, 13, 14, 15, 16] [0, 1, 2, 3, 4, 5, 6, 7, 8, 9, 10, 11] rfl rfl (by decide) (by decide) (fun r_6 u H locs hw hP hD hS => ?_)
        obtain ⟨rfl, rfl⟩ := hw
        have hP : va_P D dd_cl [((h 0), .inr (0, [.ref (h 1), .ref (h 2), .ref (h 8)])), ((h 1), .inr (1, [.ref (h 11), .int day, .int tick])), ((h 2), .inr (2, [.ref (h 3), .ref (h 4), .ref (h 5), .ref (h 6), .ref (h 7)])), ((h 3), .inl (k 0, 200, .inr (.inl ss.1))), ((h 4), .inl (k 0, 200, .inr (.inl ss.2.1))), ((h 5), .inl (k 0, 200, .inr (.inl ss.2.2.1))), ((h 6), .inl (k 0, 200, .inr (.inl ss.2.2.2.1))), ((h 7), .inl (k 1, 200, .inl ss.2.2.2.2)), ((h 8), .inr (3, [.ref (h 9), .ref (h 10), .int (nI z)])), ((h 9), .inl (k 2, 120, .inl bt)), ((h 10), .inl (k 2, 20, .inl dg)), ((h 11), .inl (k 3, 5, .inr (.inr (.inr (.inr (fun i => some (ad i))))))), ((h 12), .inr (4, [.long tk, .ref (h 13), .int (nI mv), .ref (h 14), .ref (h 15), .int (nI z), .ref (h 16)])), ((h 13), .inl (k 0, 200, .inr (.inl op))), ((h 14), .inl (k 1, 520, .inl mf)), ((h 15), .inl (k 0, 520, .inr (.inl mb))), ((h 16), .inl (k 1, 120, .inl tx))] H := hP.sub [0, 1, 2, 3, 4, 5, 6, 7, 8, 9, 10, 11, 12, 13, 14, 15, 16] rfl
        have hD : va_D A [((h 0), .inr (0, [.ref (h 1), .ref (h 2), .ref (h 8)])), ((h 1), .inr (1, [.ref (h 11), .int day, .int tick])), ((h 2), .inr (2, [.ref (h 3), .ref (h 4), .ref (h 5), .ref (h 6), .ref (h 7)])), ((h 3), .inl (k 0, 200, .inr (.inl ss.1))), ((h 4), .inl (k 0, 200, .inr (.inl ss.2.1))), ((h 5), .inl (k 0, 200, .inr (.inl ss.2.2.1))), ((h 6), .inl (k 0, 200, .inr (.inl ss.2.2.2.1))), ((h 7), .inl (k 1, 200, .inl ss.2.2.2.2)), ((h 8), .inr (3, [.ref (h 9), .ref (h 10), .int (nI z)])), ((h 9), .inl (k 2, 120, .inl bt)), ((h 10), .inl (k 2, 20, .inl dg)), ((h 11), .inl (k 3, 5, .inr (.inr (.inr (.inr (fun i => some (ad i))))))), ((h 12), .inr (4, [.long tk, .ref (h 13), .int (nI mv), .ref (h 14), .ref (h 15), .int (nI z), .ref (h 16)])), ((h 13), .inl (k 0, 200, .inr (.inl op))), ((h 14), .inl (k 1, 520, .inl mf)), ((h 15), .inl (k 0, 520, .inr (.inl mb))), ((h 16), .inl (k 1, 120, .inl tx))] := hD.sub [0, 1, 2, 3, 4, 5, 6, 7, 8, 9, 10, 11, 12, 13, 14, 15, 16] (by decide) rfl
        refine lv_icmp_eq (tgt := 368) hx hb d_law_115 (by decide) (fun c_7 => ?_) (fun c_7 => ?_)
        · refine lv_iinc (v := (nI (4 * (i + 1)))) (lv' := [(3, .int (nI (4 * (i + 1)))), (2, .ref (h 12)), (1, .ref (h 0)), (0, .ref b)]) hx hb d_law_368 hl (k := 0) rfl (dd_inc4 i) (by decide) rfl (fun ls hl => ?_)
          refine lv_goto (tgt := 18) hx hb d_law_371 (by decide) ?_
          exact ih18 (ls, (i + 1), day, tick, ss, bt, dg, tk, op, mv, mf, mb, z, tx) _ _ ⟨lv_sub hl [0, 1, 2, 3] rfl, by omega, hR2, hP, hD, hS⟩ (by dsimp only; omega)
        · exact absurd rfl c_7
      obtain ⟨N, hN1, hN2, eN⟩ := dd_skN hbad
      have hp2 := hR.skip hi5 hN2
      have hR2 := hp2.1
      refine lv_aload_n hx hb d_law_97 rfl (lv_at hl 2 rfl) ?_
      refine lv_aload_n hx hb d_law_98 rfl (lv_at hl 3 rfl) ?_
      refine lv_iload_n hx hb d_law_99 rfl (lv_at hl 0 rfl) ?_
      refine lv_iconst (v := 1) hx hb d_law_100 (by decide) ?_
      refine lv_iadd hx hb d_law_101 ?_
      refine dd_sld (j := (4 * i + 1)) hx hb hX hbl hbA hS (nI_1 _) (by omega) (by omega) d_law_102 ?_
      refine lv_topi (fun y_8 ey_8 => ?_)
      obtain rfl : y_8 = (nI N) := ey_8.trans eN
      have hPc := hP.sub (ws' := [((h 0), .inr (0, [.ref (h 1), .ref (h 2), .ref (h 8)])), ((h 1), .inr (1, [.ref (h 11), .int day, .int tick])), ((h 2), .inr (2, [.ref (h 3), .ref (h 4), .ref (h 5), .ref (h 6), .ref (h 7)])), ((h 3), .inl (k 0, 200, .inr (.inl ss.1))), ((h 4), .inl (k 0, 200, .inr (.inl ss.2.1))), ((h 5), .inl (k 0, 200, .inr (.inl ss.2.2.1))), ((h 6), .inl (k 0, 200, .inr (.inl ss.2.2.2.1))), ((h 7), .inl (k 1, 200, .inl ss.2.2.2.2))]) [0, 1, 2, 3, 4, 5, 6, 7] rfl
      have hDc := hD.sub (ws' := [((h 0), .inr (0, [.ref (h 1), .ref (h 2), .ref (h 8)])), ((h 1), .inr (1, [.ref (h 11), .int day, .int tick])), ((h 2), .inr (2, [.ref (h 3), .ref (h 4), .ref (h 5), .ref (h 6), .ref (h 7)])), ((h 3), .inl (k 0, 200, .inr (.inl ss.1))), ((h 4), .inl (k 0, 200, .inr (.inl ss.2.1))), ((h 5), .inl (k 0, 200, .inr (.inl ss.2.2.1))), ((h 6), .inl (k 0, 200, .inr (.inl ss.2.2.2.1))), ((h 7), .inl (k 1, 200, .inl ss.2.2.2.2))]) [0, 1, 2, 3, 4, 5, 6, 7] (by decide) rfl
      refine dd_mi (wc := [((h 0), .inr (0, [.ref (h 1), .ref (h 2), .ref (h 8)])), ((h 1), .inr (1, [.ref (h 11), .int day, .int tick])), ((h 2), .inr (2, [.ref (h 3), .ref (h 4), .ref (h 5), .ref (h 6), .ref (h 7)])), ((h 3), .inl (k 0, 200, .inr (.inl ss.1))), ((h 4), .inl (k 0, 200, .inr (.inl ss.2.1))), ((h 5), .inl (k 0, 200, .inr (.inl ss.2.2.1))), ((h 6), .inl (k 0, 200, .inr (.inl ss.2.2.2.1))), ((h 7), .inl (k 1, 200, .inl ss.2.2.2.2))]) (wr := [((h 8), .inr (3, [.ref (h 9), .ref (h 10), .int (nI z)])), ((h 9), .inl (k 2, 120, .inl bt)), ((h 10), .inl (k 2, 20, .inl dg)), ((h 11), .inl (k 3, 5, .inr (.inr (.inr (.inr (fun i => some (ad i))))))), ((h 12), .inr (4, [.long tk, .ref (h 13), .int (nI mv), .ref (h 14), .ref (h 15), .int (nI z), .ref (h 16)])), ((h 13), .inl (k 0, 200, .inr (.inl op))), ((h 14), .inl (k 1, 520, .inl mf)), ((h 15), .inl (k 0, 520, .inr (.inl mb))), ((h 16), .inl (k 1, 120, .inl tx))]) (va_runV (As := [.int (nI N)]) (rest := []) ⟨hx, hb, hml, hown, htb⟩ (c_D_skip l D k h H.size day tick ss N hN1 hN2) (cwV 1 htb (dd_gV tb_115 tb_116 tb_117 tb_1 tb_118) rfl rfl rfl hd_D_skip ⟨Nat.le_of_ble_eq_true rfl, Nat.le_of_ble_eq_true rfl⟩) ⟨dd_PM.bl, va_recv hK hPc (ci := 0) (q0 := 0) rfl rfl, dd_PM.of hPc hDc hK hN⟩ rfl rfl hl.1 rfl (lv_room (Nat.le_of_ble_eq_true rfl)) d_law_103 ⟨Nat.le_of_ble_eq_true rfl, Nat.le_of_ble_eq_true rfl⟩) hP hD hS hA [0, 1, 2, 3, 4, 5, 6, 7] [8, 9, 10, 11, 12, 13, 14, 15, 16] rfl rfl (by decide) (by decide) (fun r_9 u H locs hw hP hD hS => ?_)
      obtain ⟨rfl, rfl⟩ := hw
      have hP : va_P D dd_cl [((h 0), .inr (0, [.ref (h 1), .ref (h 2), .ref (h 8)])), ((h 1), .inr (1, [.ref (h 11), .int ((dd_itD day tick ss N).1), .int ((dd_itD day tick ss N).2.1)])), ((h 2), .inr (2, [.ref (h 3), .ref (h 4), .ref (h 5), .ref (h 6), .ref (h 7)])), ((h 3), .inl (k 0, 200, .inr (.inl ((dd_itD day tick ss N).2.2.1.1)))), ((h 4), .inl (k 0, 200, .inr (.inl ((dd_itD day tick ss N).2.2.1.2.1)))), ((h 5), .inl (k 0, 200, .inr (.inl ((dd_itD day tick ss N).2.2.1.2.2.1)))), ((h 6), .inl (k 0, 200, .inr (.inl ((dd_itD day tick ss N).2.2.1.2.2.2.1)))), ((h 7), .inl (k 1, 200, .inl ((dd_itD day tick ss N).2.2.1.2.2.2.2))), ((h 8), .inr (3, [.ref (h 9), .ref (h 10), .int (nI z)])), ((h 9), .inl (k 2, 120, .inl bt)), ((h 10), .inl (k 2, 20, .inl dg)), ((h 11), .inl (k 3, 5, .inr (.inr (.inr (.inr (fun i => some (ad i))))))), ((h 12), .inr (4, [.long tk, .ref (h 13), .int (nI mv), .ref (h 14), .ref (h 15), .int (nI z), .ref (h 16)])), ((h 13), .inl (k 0, 200, .inr (.inl op))), ((h 14), .inl (k 1, 520, .inl mf)), ((h 15), .inl (k 0, 520, .inr (.inl mb))), ((h 16), .inl (k 1, 120, .inl tx))] H := hP.sub [9, 10, 11, 12, 13, 14, 15, 16, 0, 1, 2, 3, 4, 5, 6, 7, 8] rfl
      have hD : va_D A [((h 0), .inr (0, [.ref (h 1), .ref (h 2), .ref (h 8)])), ((h 1), .inr (1, [.ref (h 11), .int ((dd_itD day tick ss N).1), .int ((dd_itD day tick ss N).2.1)])), ((h 2), .inr (2, [.ref (h 3), .ref (h 4), .ref (h 5), .ref (h 6), .ref (h 7)])), ((h 3), .inl (k 0, 200, .inr (.inl ((dd_itD day tick ss N).2.2.1.1)))), ((h 4), .inl (k 0, 200, .inr (.inl ((dd_itD day tick ss N).2.2.1.2.1)))), ((h 5), .inl (k 0, 200, .inr (.inl ((dd_itD day tick ss N).2.2.1.2.2.1)))), ((h 6), .inl (k 0, 200, .inr (.inl ((dd_itD day tick ss N).2.2.1.2.2.2.1)))), ((h 7), .inl (k 1, 200, .inl ((dd_itD day tick ss N).2.2.1.2.2.2.2))), ((h 8), .inr (3, [.ref (h 9), .ref (h 10), .int (nI z)])), ((h 9), .inl (k 2, 120, .inl bt)), ((h 10), .inl (k 2, 20, .inl dg)), ((h 11), .inl (k 3, 5, .inr (.inr (.inr (.inr (fun i => some (ad i))))))), ((h 12), .inr (4, [.long tk, .ref (h 13), .int (nI mv), .ref (h 14), .ref (h 15), .int (nI z), .ref (h 16)])), ((h 13), .inl (k 0, 200, .inr (.inl op))), ((h 14), .inl (k 1, 520, .inl mf)), ((h 15), .inl (k 0, 520, .inr (.inl mb))), ((h 16), .inl (k 1, 120, .inl tx))] := hD.sub [9, 10, 11, 12, 13, 14, 15, 16, 0, 1, 2, 3, 4, 5, 6, 7, 8] (by decide) rfl
      refine lv_aload_n hx hb d_law_106 rfl (lv_at hl 1 rfl) ?_
      refine lv_aload_n hx hb d_law_107 rfl (lv_at hl 3 rfl) ?_
      refine lv_iload_n hx hb d_law_108 rfl (lv_at hl 0 rfl) ?_
      refine lv_iconst (v := 1) hx hb d_law_109 (by decide) ?_
      refine lv_iadd hx hb d_law_110 ?_
      refine dd_sld (j := (4 * i + 1)) hx hb hX hbl hbA hS (nI_1 _) (by omega) (by omega) d_law_111 ?_
      refine lv_topi (fun y_10 ey_10 => ?_)
      obtain rfl : y_10 = (nI N) := ey_10.trans eN
      have hPc := hP.sub (ws' := [((h 12), .inr (4, [.long tk, .ref (h 13), .int (nI mv), .ref (h 14), .ref (h 15), .int (nI z), .ref (h 16)])), ((h 13), .inl (k 0, 200, .inr (.inl op))), ((h 14), .inl (k 1, 520, .inl mf)), ((h 15), .inl (k 0, 520, .inr (.inl mb))), ((h 16), .inl (k 1, 120, .inl tx))]) [12, 13, 14, 15, 16] rfl
      have hDc := hD.sub (ws' := [((h 12), .inr (4, [.long tk, .ref (h 13), .int (nI mv), .ref (h 14), .ref (h 15), .int (nI z), .ref (h 16)])), ((h 13), .inl (k 0, 200, .inr (.inl op))), ((h 14), .inl (k 1, 520, .inl mf)), ((h 15), .inl (k 0, 520, .inr (.inl mb))), ((h 16), .inl (k 1, 120, .inl tx))]) [12, 13, 14, 15, 16] (by decide) rfl
      refine dd_mi (wc := [((h 12), .inr (4, [.long tk, .ref (h 13), .int (nI mv), .ref (h 14), .ref (h 15), .int (nI z), .ref (h 16)])), ((h 13), .inl (k 0, 200, .inr (.inl op))), ((h 14), .inl (k 1, 520, .inl mf)), ((h 15), .inl (k 0, 520, .inr (.inl mb))), ((h 16), .inl (k 1, 120, .inl tx))]) (wr := [((h 0), .inr (0, [.ref (h 1), .ref (h 2), .ref (h 8)])), ((h 1), .inr (1, [.ref (h 11), .int ((dd_itD day tick ss N).1), .int ((dd_itD day tick ss N).2.1)])), ((h 2), .inr (2, [.ref (h 3), .ref (h 4), .ref (h 5), .ref (h 6), .ref (h 7)])), ((h 3), .inl (k 0, 200, .inr (.inl ((dd_itD day tick ss N).2.2.1.1)))), ((h 4), .inl (k 0, 200, .inr (.inl ((dd_itD day tick ss N).2.2.1.2.1)))), ((h 5), .inl (k 0, 200, .inr (.inl ((dd_itD day tick ss N).2.2.1.2.2.1)))), ((h 6), .inl (k 0, 200, .inr (.inl ((dd_itD day tick ss N).2.2.1.2.2.2.1)))), ((h 7), .inl (k 1, 200, .inl ((dd_itD day tick ss N).2.2.1.2.2.2.2))), ((h 8), .inr (3, [.ref (h 9), .ref (h 10), .int (nI z)])), ((h 9), .inl (k 2, 120, .inl bt)), ((h 10), .inl (k 2, 20, .inl dg)), ((h 11), .inl (k 3, 5, .inr (.inr (.inr (.inr (fun i => some (ad i)))))))]) (va_runV (As := [.int (nI N)]) (rest := [.int ((dd_itD day tick ss N).2.2.2)]) ⟨hx, hb, hml, hown, htb⟩ (c_M_skip l D k h H.size tk op mv mf mb (nI z) tx (by omega) N hN1 hN2) (cwV 1 htb (dd_gV tb_259 tb_260 tb_261 tb_7 tb_262) rfl rfl rfl hd_M_skip ⟨Nat.le_of_ble_eq_true rfl, Nat.le_of_ble_eq_true rfl⟩) ⟨dd_PM.bl, va_recv hK hPc (ci := 4) (q0 := 0) rfl rfl, dd_PM.of hPc hDc hK hN⟩ rfl rfl hl.1 rfl (lv_room (Nat.le_of_ble_eq_true rfl)) d_law_112 ⟨Nat.le_of_ble_eq_true rfl, Nat.le_of_ble_eq_true rfl⟩) hP hD hS hA [12, 13, 14, 15, 16] [0, 1, 2, 3, 4, 5, 6, 7, 8, 9, 10, 11] rfl rfl (by decide) (by decide) (fun r_11 u H locs hw hP hD hS => ?_)
      obtain ⟨rfl, rfl⟩ := hw
      have hP : va_P D dd_cl [((h 0), .inr (0, [.ref (h 1), .ref (h 2), .ref (h 8)])), ((h 1), .inr (1, [.ref (h 11), .int ((dd_itD day tick ss N).1), .int ((dd_itD day tick ss N).2.1)])), ((h 2), .inr (2, [.ref (h 3), .ref (h 4), .ref (h 5), .ref (h 6), .ref (h 7)])), ((h 3), .inl (k 0, 200, .inr (.inl ((dd_itD day tick ss N).2.2.1.1)))), ((h 4), .inl (k 0, 200, .inr (.inl ((dd_itD day tick ss N).2.2.1.2.1)))), ((h 5), .inl (k 0, 200, .inr (.inl ((dd_itD day tick ss N).2.2.1.2.2.1)))), ((h 6), .inl (k 0, 200, .inr (.inl ((dd_itD day tick ss N).2.2.1.2.2.2.1)))), ((h 7), .inl (k 1, 200, .inl ((dd_itD day tick ss N).2.2.1.2.2.2.2))), ((h 8), .inr (3, [.ref (h 9), .ref (h 10), .int (nI z)])), ((h 9), .inl (k 2, 120, .inl bt)), ((h 10), .inl (k 2, 20, .inl dg)), ((h 11), .inl (k 3, 5, .inr (.inr (.inr (.inr (fun i => some (ad i))))))), ((h 12), .inr (4, [.long ((dd_itM mf mb tk op mv N).1), .ref (h 13), .int (nI (dd_itM mf mb tk op mv N).2.2.1), .ref (h 14), .ref (h 15), .int (nI z), .ref (h 16)])), ((h 13), .inl (k 0, 200, .inr (.inl ((dd_itM mf mb tk op mv N).2.1)))), ((h 14), .inl (k 1, 520, .inl mf)), ((h 15), .inl (k 0, 520, .inr (.inl mb))), ((h 16), .inl (k 1, 120, .inl tx))] H := hP.sub [0, 1, 2, 3, 4, 5, 6, 7, 8, 9, 10, 11, 12, 13, 14, 15, 16] rfl
      have hD : va_D A [((h 0), .inr (0, [.ref (h 1), .ref (h 2), .ref (h 8)])), ((h 1), .inr (1, [.ref (h 11), .int ((dd_itD day tick ss N).1), .int ((dd_itD day tick ss N).2.1)])), ((h 2), .inr (2, [.ref (h 3), .ref (h 4), .ref (h 5), .ref (h 6), .ref (h 7)])), ((h 3), .inl (k 0, 200, .inr (.inl ((dd_itD day tick ss N).2.2.1.1)))), ((h 4), .inl (k 0, 200, .inr (.inl ((dd_itD day tick ss N).2.2.1.2.1)))), ((h 5), .inl (k 0, 200, .inr (.inl ((dd_itD day tick ss N).2.2.1.2.2.1)))), ((h 6), .inl (k 0, 200, .inr (.inl ((dd_itD day tick ss N).2.2.1.2.2.2.1)))), ((h 7), .inl (k 1, 200, .inl ((dd_itD day tick ss N).2.2.1.2.2.2.2))), ((h 8), .inr (3, [.ref (h 9), .ref (h 10), .int (nI z)])), ((h 9), .inl (k 2, 120, .inl bt)), ((h 10), .inl (k 2, 20, .inl dg)), ((h 11), .inl (k 3, 5, .inr (.inr (.inr (.inr (fun i => some (ad i))))))), ((h 12), .inr (4, [.long ((dd_itM mf mb tk op mv N).1), .ref (h 13), .int (nI (dd_itM mf mb tk op mv N).2.2.1), .ref (h 14), .ref (h 15), .int (nI z), .ref (h 16)])), ((h 13), .inl (k 0, 200, .inr (.inl ((dd_itM mf mb tk op mv N).2.1)))), ((h 14), .inl (k 1, 520, .inl mf)), ((h 15), .inl (k 0, 520, .inr (.inl mb))), ((h 16), .inl (k 1, 120, .inl tx))] := hD.sub [0, 1, 2, 3, 4, 5, 6, 7, 8, 9, 10, 11, 12, 13, 14, 15, 16] (by decide) rfl
      refine lv_icmp_eq (tgt := 368) hx hb d_law_115 (by decide) (fun c_12 => ?_) (fun c_12 => ?_)
      · refine lv_iinc (v := (nI (4 * (i + 1)))) (lv' := [(3, .int (nI (4 * (i + 1)))), (2, .ref (h 12)), (1, .ref (h 0)), (0, .ref b)]) hx hb d_law_368 hl (k := 0) rfl (dd_inc4 i) (by decide) rfl (fun ls hl => ?_)
        refine lv_goto (tgt := 18) hx hb d_law_371 (by decide) ?_
        exact ih18 (ls, (i + 1), ((dd_itD day tick ss N).1), ((dd_itD day tick ss N).2.1), ((dd_itD day tick ss N).2.2.1), bt, dg, ((dd_itM mf mb tk op mv N).1), ((dd_itM mf mb tk op mv N).2.1), ((dd_itM mf mb tk op mv N).2.2.1), mf, mb, z, tx) _ _ ⟨lv_sub hl [0, 1, 2, 3] rfl, by omega, hR2, hP, hD, hS⟩ (by dsimp only; omega)
      · exact absurd hp2.2 c_12
    by_cases s_2 : xw = 2
    · subst s_2
      refine lv_tableIn (tgt := 120) hx hb d_law_32 (by decide) (by decide) rfl (by decide) ?_
      obtain ⟨etk, h0⟩ := hR.tk0 hi5
      have hR2 := hR.keep
      refine lv_aload_n hx hb d_law_120 rfl (lv_at hl 2 rfl) ?_
      refine lv_aload_n hx hb d_law_121 rfl (lv_at hl 3 rfl) ?_
      refine lv_iload_n hx hb d_law_122 rfl (lv_at hl 0 rfl) ?_
      refine lv_iconst (v := 1) hx hb d_law_123 (by decide) ?_
      refine lv_iadd hx hb d_law_124 ?_
      refine dd_sld (j := (4 * i + 1)) hx hb hX hbl hbA hS (nI_1 _) (by omega) (by omega) d_law_125 ?_
      refine lv_aload_n hx hb d_law_126 rfl (lv_at hl 3 rfl) ?_
      refine lv_iload_n hx hb d_law_127 rfl (lv_at hl 0 rfl) ?_
      refine lv_iconst (v := 2) hx hb d_law_128 (by decide) ?_
      refine lv_iadd hx hb d_law_129 ?_
      refine dd_sld (j := (4 * i + 2)) hx hb hX hbl hbA hS (nI_add _ 2) (by omega) (by omega) d_law_130 ?_
      refine dd_jn (α := Int32) (P := fun z => z = (if (xs (4 * i + 3)) = 0 then 0 else 1)) (g := fun z => F0 m 144 ls [.int z, .int (xs (4 * i + 2)), .int (xs (4 * i + 1)), .ref (h 0)]) (fun z (ez : z = (if (xs (4 * i + 3)) = 0 then 0 else 1)) => ?_) (fun jn144 => ?_)
      · subst ez
        refine W.eq (g2 := F0 m 144 ls [.int (if (xs (4 * i + 3)) = 0 then 0 else 1), .int (xs (4 * i + 2)), .int (xs (4 * i + 1)), .ref (h 0)]) rfl ?_
        have hPc := hP.sub (ws' := [((h 0), .inr (0, [.ref (h 1), .ref (h 2), .ref (h 8)])), ((h 1), .inr (1, [.ref (h 11), .int day, .int tick])), ((h 11), .inl (k 3, 5, .inr (.inr (.inr (.inr (fun i => some (ad i)))))))]) [0, 1, 11] rfl
        refine vp_callSi (va_Run.run (va_runV (As := [.int (xs (4 * i + 1)), .int (xs (4 * i + 2)), .int (if (xs (4 * i + 3)) = 0 then 0 else 1)]) (rest := []) ⟨hx, hb, hml, hown, htb⟩ (c_D_may l D k ad h day tick h0 (xs (4 * i + 1)) (xs (4 * i + 2)) (if (xs (4 * i + 3)) = 0 then 0 else 1)) (cwV 3 htb (dd_gV tb_121 tb_122 tb_123 tb_1 tb_124) rfl rfl rfl hd_D_may ⟨Nat.le_of_ble_eq_true rfl, Nat.le_of_ble_eq_true rfl⟩) ⟨dd_PE.bl, va_recv hK hPc (ci := 0) (q0 := 0) rfl rfl, dd_PE.of hPc hK hN hE hS⟩ rfl rfl hl.1 rfl (lv_room (Nat.le_of_ble_eq_true rfl)) d_law_144 ⟨Nat.le_of_ble_eq_true rfl, Nat.le_of_ble_eq_true rfl⟩)) (fun r_13 er_13 => ?_)
        subst er_13
        refine lv_aload_n hx hb d_law_147 rfl (lv_at hl 1 rfl) ?_
        refine lv_aload_n hx hb d_law_148 rfl (lv_at hl 3 rfl) ?_
        refine lv_iload_n hx hb d_law_149 rfl (lv_at hl 0 rfl) ?_
        refine lv_iconst (v := 1) hx hb d_law_150 (by decide) ?_
        refine lv_iadd hx hb d_law_151 ?_
        refine dd_sld (j := (4 * i + 1)) hx hb hX hbl hbA hS (nI_1 _) (by omega) (by omega) d_law_152 ?_
        refine lv_aload_n hx hb d_law_153 rfl (lv_at hl 3 rfl) ?_
        refine lv_iload_n hx hb d_law_154 rfl (lv_at hl 0 rfl) ?_
        refine lv_iconst (v := 2) hx hb d_law_155 (by decide) ?_
        refine lv_iadd hx hb d_law_156 ?_
        refine dd_sld (j := (4 * i + 2)) hx hb hX hbl hbA hS (nI_add _ 2) (by omega) (by omega) d_law_157 ?_
        refine dd_jn (α := Int32) (P := fun z => z = (if (xs (4 * i + 3)) = 0 then 0 else 1)) (g := fun z => F0 m 171 ls [.int z, .int (xs (4 * i + 2)), .int (xs (4 * i + 1)), .ref (h 12), .int (dd_mayD (dd_phN tick) (xs (4 * i + 1)) (xs (4 * i + 2)) (if (xs (4 * i + 3)) = 0 then 0 else 1))]) (fun z (ez : z = (if (xs (4 * i + 3)) = 0 then 0 else 1)) => ?_) (fun jn171 => ?_)
        · subst ez
          refine W.eq (g2 := F0 m 171 ls [.int (if (xs (4 * i + 3)) = 0 then 0 else 1), .int (xs (4 * i + 2)), .int (xs (4 * i + 1)), .ref (h 12), .int (dd_mayD (dd_phN tick) (xs (4 * i + 1)) (xs (4 * i + 2)) (if (xs (4 * i + 3)) = 0 then 0 else 1))]) rfl ?_
          have hPc := hP.sub (ws' := [((h 12), .inr (4, [.long tk, .ref (h 13), .int (nI mv), .ref (h 14), .ref (h 15), .int (nI z), .ref (h 16)])), ((h 13), .inl (k 0, 200, .inr (.inl op))), ((h 14), .inl (k 1, 520, .inl mf)), ((h 15), .inl (k 0, 520, .inr (.inl mb))), ((h 16), .inl (k 1, 120, .inl tx))]) [12, 13, 14, 15, 16] rfl
          refine vp_callSi (va_Run.run (va_runV (As := [.int (xs (4 * i + 1)), .int (xs (4 * i + 2)), .int (if (xs (4 * i + 3)) = 0 then 0 else 1)]) (rest := [.int (dd_mayD (dd_phN tick) (xs (4 * i + 1)) (xs (4 * i + 2)) (if (xs (4 * i + 3)) = 0 then 0 else 1))]) ⟨hx, hb, hml, hown, htb⟩ (c_M_may l D k h tk op mv mf mb (nI z) tx (xs (4 * i + 1)) (xs (4 * i + 2)) (if (xs (4 * i + 3)) = 0 then 0 else 1)) (cwV 3 htb (dd_gV tb_265 tb_266 tb_267 tb_7 tb_268) rfl rfl rfl hd_M_may ⟨Nat.le_of_ble_eq_true rfl, Nat.le_of_ble_eq_true rfl⟩) ⟨dd_PR.bl, va_recv hK hPc (ci := 4) (q0 := 0) rfl rfl, dd_PR.of hPc hK hN⟩ rfl rfl hl.1 rfl (lv_room (Nat.le_of_ble_eq_true rfl)) d_law_171 ⟨Nat.le_of_ble_eq_true rfl, Nat.le_of_ble_eq_true rfl⟩)) (fun r_14 er_14 => ?_)
          subst er_14
          refine lv_icmp_eq (tgt := 368) hx hb d_law_174 (by decide) (fun c_15 => ?_) (fun c_15 => ?_)
          · refine lv_iinc (v := (nI (4 * (i + 1)))) (lv' := [(3, .int (nI (4 * (i + 1)))), (2, .ref (h 12)), (1, .ref (h 0)), (0, .ref b)]) hx hb d_law_368 hl (k := 0) rfl (dd_inc4 i) (by decide) rfl (fun ls hl => ?_)
            refine lv_goto (tgt := 18) hx hb d_law_371 (by decide) ?_
            exact ih18 (ls, (i + 1), day, tick, ss, bt, dg, tk, op, mv, mf, mb, z, tx) _ _ ⟨lv_sub hl [0, 1, 2, 3] rfl, by omega, hR2, hP, hD, hS⟩ (by dsimp only; omega)
          · exact absurd (by rw [etk, dd_ph_nI]; exact dd_may_eq (dd_phN_lt _) _ _ _) c_15
        refine lv_aload_n hx hb d_law_158 rfl (lv_at hl 3 rfl) ?_
        refine lv_iload_n hx hb d_law_159 rfl (lv_at hl 0 rfl) ?_
        refine lv_iconst (v := 3) hx hb d_law_160 (by decide) ?_
        refine lv_iadd hx hb d_law_161 ?_
        refine dd_sld (j := (4 * i + 3)) hx hb hX hbl hbA hS (nI_add _ 3) (by omega) (by omega) d_law_162 ?_
        refine lv_if_eq (tgt := 170) hx hb d_law_163 (by decide) (fun c_16 => ?_) (fun c_16 => ?_)
        · refine lv_iconst (v := 0) hx hb d_law_170 (by decide) ?_
          exact jn171 _ ((if_pos c_16).symm)
        · refine lv_iconst (v := 1) hx hb d_law_166 (by decide) ?_
          refine lv_goto (tgt := 171) hx hb d_law_167 (by decide) ?_
          exact jn171 _ ((if_neg c_16).symm)
      refine lv_aload_n hx hb d_law_131 rfl (lv_at hl 3 rfl) ?_
      refine lv_iload_n hx hb d_law_132 rfl (lv_at hl 0 rfl) ?_
      refine lv_iconst (v := 3) hx hb d_law_133 (by decide) ?_
      refine lv_iadd hx hb d_law_134 ?_
      refine dd_sld (j := (4 * i + 3)) hx hb hX hbl hbA hS (nI_add _ 3) (by omega) (by omega) d_law_135 ?_
      refine lv_if_eq (tgt := 143) hx hb d_law_136 (by decide) (fun c_17 => ?_) (fun c_17 => ?_)
      · refine lv_iconst (v := 0) hx hb d_law_143 (by decide) ?_
        exact jn144 _ ((if_pos c_17).symm)
      · refine lv_iconst (v := 1) hx hb d_law_139 (by decide) ?_
        refine lv_goto (tgt := 144) hx hb d_law_140 (by decide) ?_
        exact jn144 _ ((if_neg c_17).symm)
    by_cases s_3 : xw = 3
    · subst s_3
      refine lv_tableIn (tgt := 179) hx hb d_law_32 (by decide) (by decide) rfl (by decide) ?_
      obtain ⟨etk, h0⟩ := hR.tk0 hi5
      have hR2 := hR.keep
      obtain ⟨⟨TT, hT1, hT2⟩, -⟩ := id hR
      have hTb : TT < 2 ^ 31 := by omega
      have hTR : dd_TR tick (dd_n1 (TT % 1000)) := by rw [hT2.2.1]; exact dd_TR_n1 (Nat.mod_lt _ (by decide))
      have hTP : dd_TP tick (dd_n2 (TT % 1000)) := by rw [hT2.2.1]; exact dd_TP_n2 (Nat.mod_lt _ (by decide))
      refine lv_aload_n hx hb d_law_179 rfl (lv_at hl 2 rfl) ?_
      refine lv_aload_n hx hb d_law_180 rfl (lv_at hl 3 rfl) ?_
      refine lv_iload_n hx hb d_law_181 rfl (lv_at hl 0 rfl) ?_
      refine lv_iconst (v := 1) hx hb d_law_182 (by decide) ?_
      refine lv_iadd hx hb d_law_183 ?_
      refine dd_sld (j := (4 * i + 1)) hx hb hX hbl hbA hS (nI_1 _) (by omega) (by omega) d_law_184 ?_
      have hPc := hP.sub (ws' := [((h 0), .inr (0, [.ref (h 1), .ref (h 2), .ref (h 8)])), ((h 1), .inr (1, [.ref (h 11), .int day, .int tick])), ((h 11), .inl (k 3, 5, .inr (.inr (.inr (.inr (fun i => some (ad i)))))))]) [0, 1, 11] rfl
      refine vp_callSi (va_Run.run (va_runV (As := [.int (xs (4 * i + 1))]) (rest := []) ⟨hx, hb, hml, hown, htb⟩ (c_D_look l D k ad h day tick h0 (dd_n1 (TT % 1000)) hTR (xs (4 * i + 1))) (cwV 1 htb (dd_gV tb_141 tb_142 tb_143 tb_1 tb_144) rfl rfl rfl hd_D_look ⟨Nat.le_of_ble_eq_true rfl, Nat.le_of_ble_eq_true rfl⟩) ⟨dd_PE.bl, va_recv hK hPc (ci := 0) (q0 := 0) rfl rfl, dd_PE.of hPc hK hN hE hS⟩ rfl rfl hl.1 rfl (lv_room (Nat.le_of_ble_eq_true rfl)) d_law_185 ⟨Nat.le_of_ble_eq_true rfl, Nat.le_of_ble_eq_true rfl⟩)) (fun r_18 er_18 => ?_)
      subst er_18
      refine lv_aload_n hx hb d_law_188 rfl (lv_at hl 1 rfl) ?_
      refine lv_aload_n hx hb d_law_189 rfl (lv_at hl 3 rfl) ?_
      refine lv_iload_n hx hb d_law_190 rfl (lv_at hl 0 rfl) ?_
      refine lv_iconst (v := 1) hx hb d_law_191 (by decide) ?_
      refine lv_iadd hx hb d_law_192 ?_
      refine dd_sld (j := (4 * i + 1)) hx hb hX hbl hbA hS (nI_1 _) (by omega) (by omega) d_law_193 ?_
      have hPc := hP.sub (ws' := [((h 12), .inr (4, [.long tk, .ref (h 13), .int (nI mv), .ref (h 14), .ref (h 15), .int (nI z), .ref (h 16)])), ((h 13), .inl (k 0, 200, .inr (.inl op))), ((h 14), .inl (k 1, 520, .inl mf)), ((h 15), .inl (k 0, 520, .inr (.inl mb))), ((h 16), .inl (k 1, 120, .inl tx))]) [12, 13, 14, 15, 16] rfl
      refine vp_callSi (va_Run.run (va_runV (As := [.int (xs (4 * i + 1))]) (rest := [.int (dd_lkD day tick (dd_n1 (TT % 1000)) (xs (4 * i + 1)))]) ⟨hx, hb, hml, hown, htb⟩ (c_M_look l D k h tk op mv mf mb (nI z) tx (dd_n1 (TT % 1000)) (dd_n2 (TT % 1000)) (by rw [etk]; exact hTR) (by rw [etk]; exact hTP) (xs (4 * i + 1))) (cwV 1 htb (dd_gV tb_272 tb_273 tb_274 tb_7 tb_275) rfl rfl rfl hd_M_look ⟨Nat.le_of_ble_eq_true rfl, Nat.le_of_ble_eq_true rfl⟩) ⟨dd_PR.bl, va_recv hK hPc (ci := 4) (q0 := 0) rfl rfl, dd_PR.of hPc hK hN⟩ rfl rfl hl.1 rfl (lv_room (Nat.le_of_ble_eq_true rfl)) d_law_194 ⟨Nat.le_of_ble_eq_true rfl, Nat.le_of_ble_eq_true rfl⟩)) (fun r_19 er_19 => ?_)
      subst er_19
      refine lv_icmp_eq (tgt := 368) hx hb d_law_197 (by decide) (fun c_20 => ?_) (fun c_20 => ?_)
      · refine lv_iinc (v := (nI (4 * (i + 1)))) (lv' := [(3, .int (nI (4 * (i + 1)))), (2, .ref (h 12)), (1, .ref (h 0)), (0, .ref b)]) hx hb d_law_368 hl (k := 0) rfl (dd_inc4 i) (by decide) rfl (fun ls hl => ?_)
        refine lv_goto (tgt := 18) hx hb d_law_371 (by decide) ?_
        exact ih18 (ls, (i + 1), day, tick, ss, bt, dg, tk, op, mv, mf, mb, z, tx) _ _ ⟨lv_sub hl [0, 1, 2, 3] rfl, by omega, hR2, hP, hD, hS⟩ (by dsimp only; omega)
      · exact absurd (dd_look_eq hT2 hTb _) c_20
    by_cases s_4 : xw = 4
    · subst s_4
      refine lv_tableIn (tgt := 202) hx hb d_law_32 (by decide) (by decide) rfl (by decide) ?_
      refine lv_aload_n hx hb d_law_202 rfl (lv_at hl 2 rfl) ?_
      refine lv_aload_n hx hb d_law_203 rfl (lv_at hl 3 rfl) ?_
      refine lv_iload_n hx hb d_law_204 rfl (lv_at hl 0 rfl) ?_
      refine lv_iconst (v := 1) hx hb d_law_205 (by decide) ?_
      refine lv_iadd hx hb d_law_206 ?_
      refine dd_sld (j := (4 * i + 1)) hx hb hX hbl hbA hS (nI_1 _) (by omega) (by omega) d_law_207 ?_
      refine lv_aload_n hx hb d_law_208 rfl (lv_at hl 3 rfl) ?_
      refine lv_iload_n hx hb d_law_209 rfl (lv_at hl 0 rfl) ?_
      refine lv_iconst (v := 2) hx hb d_law_210 (by decide) ?_
      refine lv_iadd hx hb d_law_211 ?_
      refine dd_sld (j := (4 * i + 2)) hx hb hX hbl hbA hS (nI_add _ 2) (by omega) (by omega) d_law_212 ?_
      refine lv_i2l hx hb d_law_213 rfl ?_
      refine lv_bipush (v := 32) hx hb d_law_214 (by decide) ?_
      refine lv_lshl hx hb d_law_216 rfl ?_
      refine lv_aload_n hx hb d_law_217 rfl (lv_at hl 3 rfl) ?_
      refine lv_iload_n hx hb d_law_218 rfl (lv_at hl 0 rfl) ?_
      refine lv_iconst (v := 3) hx hb d_law_219 (by decide) ?_
      refine lv_iadd hx hb d_law_220 ?_
      refine dd_sld (j := (4 * i + 3)) hx hb hX hbl hbA hS (nI_add _ 3) (by omega) (by omega) d_law_221 ?_
      refine lv_i2l hx hb d_law_222 rfl ?_
      refine lv_ldc2 (v := 4294967295) hx hb hown (htb _ tb_309) d_law_223 ?_
      refine lv_land hx hb d_law_226 ?_
      refine lv_lor hx hb d_law_227 ?_
      refine lv_topl (fun v ev => ?_)
      have hp2 := hR.move hi5 (xs (4 * i + 1)) v
      have hR2 := hp2.1
      have hPc := hP.sub (ws' := [((h 0), .inr (0, [.ref (h 1), .ref (h 2), .ref (h 8)])), ((h 2), .inr (2, [.ref (h 3), .ref (h 4), .ref (h 5), .ref (h 6), .ref (h 7)])), ((h 3), .inl (k 0, 200, .inr (.inl ss.1))), ((h 4), .inl (k 0, 200, .inr (.inl ss.2.1))), ((h 5), .inl (k 0, 200, .inr (.inl ss.2.2.1))), ((h 6), .inl (k 0, 200, .inr (.inl ss.2.2.2.1))), ((h 7), .inl (k 1, 200, .inl ss.2.2.2.2))]) [0, 2, 3, 4, 5, 6, 7] rfl
      have hDc := hD.sub (ws' := [((h 0), .inr (0, [.ref (h 1), .ref (h 2), .ref (h 8)])), ((h 2), .inr (2, [.ref (h 3), .ref (h 4), .ref (h 5), .ref (h 6), .ref (h 7)])), ((h 3), .inl (k 0, 200, .inr (.inl ss.1))), ((h 4), .inl (k 0, 200, .inr (.inl ss.2.1))), ((h 5), .inl (k 0, 200, .inr (.inl ss.2.2.1))), ((h 6), .inl (k 0, 200, .inr (.inl ss.2.2.2.1))), ((h 7), .inl (k 1, 200, .inl ss.2.2.2.2))]) [0, 2, 3, 4, 5, 6, 7] (by decide) rfl
      refine dd_mi (wc := [((h 0), .inr (0, [.ref (h 1), .ref (h 2), .ref (h 8)])), ((h 2), .inr (2, [.ref (h 3), .ref (h 4), .ref (h 5), .ref (h 6), .ref (h 7)])), ((h 3), .inl (k 0, 200, .inr (.inl ss.1))), ((h 4), .inl (k 0, 200, .inr (.inl ss.2.1))), ((h 5), .inl (k 0, 200, .inr (.inl ss.2.2.1))), ((h 6), .inl (k 0, 200, .inr (.inl ss.2.2.2.1))), ((h 7), .inl (k 1, 200, .inl ss.2.2.2.2))]) (wr := [((h 1), .inr (1, [.ref (h 11), .int day, .int tick])), ((h 8), .inr (3, [.ref (h 9), .ref (h 10), .int (nI z)])), ((h 9), .inl (k 2, 120, .inl bt)), ((h 10), .inl (k 2, 20, .inl dg)), ((h 11), .inl (k 3, 5, .inr (.inr (.inr (.inr (fun i => some (ad i))))))), ((h 12), .inr (4, [.long tk, .ref (h 13), .int (nI mv), .ref (h 14), .ref (h 15), .int (nI z), .ref (h 16)])), ((h 13), .inl (k 0, 200, .inr (.inl op))), ((h 14), .inl (k 1, 520, .inl mf)), ((h 15), .inl (k 0, 520, .inr (.inl mb))), ((h 16), .inl (k 1, 120, .inl tx))]) (va_runV (As := [.int (xs (4 * i + 1)), .long v]) (rest := []) ⟨hx, hb, hml, hown, htb⟩ (c_D_move l D k h H.size ss (xs (4 * i + 1)) v) (cwV 2 htb (dd_gV tb_154 tb_155 tb_156 tb_1 tb_157) rfl rfl rfl hd_D_move ⟨Nat.le_of_ble_eq_true rfl, Nat.le_of_ble_eq_true rfl⟩) ⟨dd_PM.bl, va_recv hK hPc (ci := 0) (q0 := 0) rfl rfl, dd_PM.of hPc hDc hK hN⟩ rfl rfl hl.1 rfl (lv_room (Nat.le_of_ble_eq_true rfl)) d_law_228 ⟨Nat.le_of_ble_eq_true rfl, Nat.le_of_ble_eq_true rfl⟩) hP hD hS hA [0, 2, 3, 4, 5, 6, 7] [1, 8, 9, 10, 11, 12, 13, 14, 15, 16] rfl rfl (by decide) (by decide) (fun r_21 u H locs hw hP hD hS => ?_)
      obtain ⟨rfl, rfl⟩ := dd_mvD_of hw
      have hP : va_P D dd_cl [((h 0), .inr (0, [.ref (h 1), .ref (h 2), .ref (h 8)])), ((h 1), .inr (1, [.ref (h 11), .int day, .int tick])), ((h 2), .inr (2, [.ref (h 3), .ref (h 4), .ref (h 5), .ref (h 6), .ref (h 7)])), ((h 3), .inl (k 0, 200, .inr (.inl ((dd_mvD (dd_okD ss (xs (4 * i + 1)) v) v ss (xs (4 * i + 1)).toNatClampNeg).1)))), ((h 4), .inl (k 0, 200, .inr (.inl ((dd_mvD (dd_okD ss (xs (4 * i + 1)) v) v ss (xs (4 * i + 1)).toNatClampNeg).2.1)))), ((h 5), .inl (k 0, 200, .inr (.inl ((dd_mvD (dd_okD ss (xs (4 * i + 1)) v) v ss (xs (4 * i + 1)).toNatClampNeg).2.2.1)))), ((h 6), .inl (k 0, 200, .inr (.inl ((dd_mvD (dd_okD ss (xs (4 * i + 1)) v) v ss (xs (4 * i + 1)).toNatClampNeg).2.2.2.1)))), ((h 7), .inl (k 1, 200, .inl ((dd_mvD (dd_okD ss (xs (4 * i + 1)) v) v ss (xs (4 * i + 1)).toNatClampNeg).2.2.2.2))), ((h 8), .inr (3, [.ref (h 9), .ref (h 10), .int (nI z)])), ((h 9), .inl (k 2, 120, .inl bt)), ((h 10), .inl (k 2, 20, .inl dg)), ((h 11), .inl (k 3, 5, .inr (.inr (.inr (.inr (fun i => some (ad i))))))), ((h 12), .inr (4, [.long tk, .ref (h 13), .int (nI mv), .ref (h 14), .ref (h 15), .int (nI z), .ref (h 16)])), ((h 13), .inl (k 0, 200, .inr (.inl op))), ((h 14), .inl (k 1, 520, .inl mf)), ((h 15), .inl (k 0, 520, .inr (.inl mb))), ((h 16), .inl (k 1, 120, .inl tx))] H := hP.sub [10, 0, 11, 12, 13, 14, 15, 16, 1, 2, 3, 4, 5, 6, 7, 8, 9] rfl
      have hD : va_D A [((h 0), .inr (0, [.ref (h 1), .ref (h 2), .ref (h 8)])), ((h 1), .inr (1, [.ref (h 11), .int day, .int tick])), ((h 2), .inr (2, [.ref (h 3), .ref (h 4), .ref (h 5), .ref (h 6), .ref (h 7)])), ((h 3), .inl (k 0, 200, .inr (.inl ((dd_mvD (dd_okD ss (xs (4 * i + 1)) v) v ss (xs (4 * i + 1)).toNatClampNeg).1)))), ((h 4), .inl (k 0, 200, .inr (.inl ((dd_mvD (dd_okD ss (xs (4 * i + 1)) v) v ss (xs (4 * i + 1)).toNatClampNeg).2.1)))), ((h 5), .inl (k 0, 200, .inr (.inl ((dd_mvD (dd_okD ss (xs (4 * i + 1)) v) v ss (xs (4 * i + 1)).toNatClampNeg).2.2.1)))), ((h 6), .inl (k 0, 200, .inr (.inl ((dd_mvD (dd_okD ss (xs (4 * i + 1)) v) v ss (xs (4 * i + 1)).toNatClampNeg).2.2.2.1)))), ((h 7), .inl (k 1, 200, .inl ((dd_mvD (dd_okD ss (xs (4 * i + 1)) v) v ss (xs (4 * i + 1)).toNatClampNeg).2.2.2.2))), ((h 8), .inr (3, [.ref (h 9), .ref (h 10), .int (nI z)])), ((h 9), .inl (k 2, 120, .inl bt)), ((h 10), .inl (k 2, 20, .inl dg)), ((h 11), .inl (k 3, 5, .inr (.inr (.inr (.inr (fun i => some (ad i))))))), ((h 12), .inr (4, [.long tk, .ref (h 13), .int (nI mv), .ref (h 14), .ref (h 15), .int (nI z), .ref (h 16)])), ((h 13), .inl (k 0, 200, .inr (.inl op))), ((h 14), .inl (k 1, 520, .inl mf)), ((h 15), .inl (k 0, 520, .inr (.inl mb))), ((h 16), .inl (k 1, 120, .inl tx))] := hD.sub [10, 0, 11, 12, 13, 14, 15, 16, 1, 2, 3, 4, 5, 6, 7, 8, 9] (by decide) rfl
      refine lv_aload_n hx hb d_law_231 rfl (lv_at hl 1 rfl) ?_
      refine lv_aload_n hx hb d_law_232 rfl (lv_at hl 3 rfl) ?_
      refine lv_iload_n hx hb d_law_233 rfl (lv_at hl 0 rfl) ?_
      refine lv_iconst (v := 1) hx hb d_law_234 (by decide) ?_
      refine lv_iadd hx hb d_law_235 ?_
      refine dd_sld (j := (4 * i + 1)) hx hb hX hbl hbA hS (nI_1 _) (by omega) (by omega) d_law_236 ?_
      refine lv_aload_n hx hb d_law_237 rfl (lv_at hl 3 rfl) ?_
      refine lv_iload_n hx hb d_law_238 rfl (lv_at hl 0 rfl) ?_
      refine lv_iconst (v := 2) hx hb d_law_239 (by decide) ?_
      refine lv_iadd hx hb d_law_240 ?_
      refine dd_sld (j := (4 * i + 2)) hx hb hX hbl hbA hS (nI_add _ 2) (by omega) (by omega) d_law_241 ?_
      refine lv_i2l hx hb d_law_242 rfl ?_
      refine lv_bipush (v := 32) hx hb d_law_243 (by decide) ?_
      refine lv_lshl hx hb d_law_245 rfl ?_
      refine lv_aload_n hx hb d_law_246 rfl (lv_at hl 3 rfl) ?_
      refine lv_iload_n hx hb d_law_247 rfl (lv_at hl 0 rfl) ?_
      refine lv_iconst (v := 3) hx hb d_law_248 (by decide) ?_
      refine lv_iadd hx hb d_law_249 ?_
      refine dd_sld (j := (4 * i + 3)) hx hb hX hbl hbA hS (nI_add _ 3) (by omega) (by omega) d_law_250 ?_
      refine lv_i2l hx hb d_law_251 rfl ?_
      refine lv_ldc2 (v := 4294967295) hx hb hown (htb _ tb_309) d_law_252 ?_
      refine lv_land hx hb d_law_255 ?_
      refine lv_lor hx hb d_law_256 ?_
      refine lv_topl (fun y9 ey9 => ?_)
      obtain rfl : v = y9 := (ey9.trans ev.symm).symm
      have hPc := hP.sub (ws' := [((h 12), .inr (4, [.long tk, .ref (h 13), .int (nI mv), .ref (h 14), .ref (h 15), .int (nI z), .ref (h 16)])), ((h 13), .inl (k 0, 200, .inr (.inl op))), ((h 14), .inl (k 1, 520, .inl mf)), ((h 15), .inl (k 0, 520, .inr (.inl mb))), ((h 16), .inl (k 1, 120, .inl tx))]) [12, 13, 14, 15, 16] rfl
      have hDc := hD.sub (ws' := [((h 12), .inr (4, [.long tk, .ref (h 13), .int (nI mv), .ref (h 14), .ref (h 15), .int (nI z), .ref (h 16)])), ((h 13), .inl (k 0, 200, .inr (.inl op))), ((h 14), .inl (k 1, 520, .inl mf)), ((h 15), .inl (k 0, 520, .inr (.inl mb))), ((h 16), .inl (k 1, 120, .inl tx))]) [12, 13, 14, 15, 16] (by decide) rfl
      refine dd_mi (wc := [((h 12), .inr (4, [.long tk, .ref (h 13), .int (nI mv), .ref (h 14), .ref (h 15), .int (nI z), .ref (h 16)])), ((h 13), .inl (k 0, 200, .inr (.inl op))), ((h 14), .inl (k 1, 520, .inl mf)), ((h 15), .inl (k 0, 520, .inr (.inl mb))), ((h 16), .inl (k 1, 120, .inl tx))]) (wr := [((h 0), .inr (0, [.ref (h 1), .ref (h 2), .ref (h 8)])), ((h 1), .inr (1, [.ref (h 11), .int day, .int tick])), ((h 2), .inr (2, [.ref (h 3), .ref (h 4), .ref (h 5), .ref (h 6), .ref (h 7)])), ((h 3), .inl (k 0, 200, .inr (.inl ((dd_mvD (dd_okD ss (xs (4 * i + 1)) v) v ss (xs (4 * i + 1)).toNatClampNeg).1)))), ((h 4), .inl (k 0, 200, .inr (.inl ((dd_mvD (dd_okD ss (xs (4 * i + 1)) v) v ss (xs (4 * i + 1)).toNatClampNeg).2.1)))), ((h 5), .inl (k 0, 200, .inr (.inl ((dd_mvD (dd_okD ss (xs (4 * i + 1)) v) v ss (xs (4 * i + 1)).toNatClampNeg).2.2.1)))), ((h 6), .inl (k 0, 200, .inr (.inl ((dd_mvD (dd_okD ss (xs (4 * i + 1)) v) v ss (xs (4 * i + 1)).toNatClampNeg).2.2.2.1)))), ((h 7), .inl (k 1, 200, .inl ((dd_mvD (dd_okD ss (xs (4 * i + 1)) v) v ss (xs (4 * i + 1)).toNatClampNeg).2.2.2.2))), ((h 8), .inr (3, [.ref (h 9), .ref (h 10), .int (nI z)])), ((h 9), .inl (k 2, 120, .inl bt)), ((h 10), .inl (k 2, 20, .inl dg)), ((h 11), .inl (k 3, 5, .inr (.inr (.inr (.inr (fun i => some (ad i)))))))]) (va_runV (As := [.int (xs (4 * i + 1)), .long v]) (rest := [.int (dd_mvR (dd_okD ss (xs (4 * i + 1)) v) v)]) ⟨hx, hb, hml, hown, htb⟩ (c_M_move l D k h H.size tk op mv mf mb (nI z) tx (by omega) (xs (4 * i + 1)) v) (cwV 2 htb (dd_gV tb_276 tb_277 tb_278 tb_7 tb_279) rfl rfl rfl hd_M_move ⟨Nat.le_of_ble_eq_true rfl, Nat.le_of_ble_eq_true rfl⟩) ⟨dd_PM.bl, va_recv hK hPc (ci := 4) (q0 := 0) rfl rfl, dd_PM.of hPc hDc hK hN⟩ rfl rfl hl.1 rfl (lv_room (Nat.le_of_ble_eq_true rfl)) d_law_257 ⟨Nat.le_of_ble_eq_true rfl, Nat.le_of_ble_eq_true rfl⟩) hP hD hS hA [12, 13, 14, 15, 16] [0, 1, 2, 3, 4, 5, 6, 7, 8, 9, 10, 11] rfl rfl (by decide) (by decide) (fun r_22 u H locs hw hP hD hS => ?_)
      obtain ⟨rfl, rfl⟩ := dd_mvM_of hw
      have hP : va_P D dd_cl [((h 0), .inr (0, [.ref (h 1), .ref (h 2), .ref (h 8)])), ((h 1), .inr (1, [.ref (h 11), .int day, .int tick])), ((h 2), .inr (2, [.ref (h 3), .ref (h 4), .ref (h 5), .ref (h 6), .ref (h 7)])), ((h 3), .inl (k 0, 200, .inr (.inl ((dd_mvD (dd_okD ss (xs (4 * i + 1)) v) v ss (xs (4 * i + 1)).toNatClampNeg).1)))), ((h 4), .inl (k 0, 200, .inr (.inl ((dd_mvD (dd_okD ss (xs (4 * i + 1)) v) v ss (xs (4 * i + 1)).toNatClampNeg).2.1)))), ((h 5), .inl (k 0, 200, .inr (.inl ((dd_mvD (dd_okD ss (xs (4 * i + 1)) v) v ss (xs (4 * i + 1)).toNatClampNeg).2.2.1)))), ((h 6), .inl (k 0, 200, .inr (.inl ((dd_mvD (dd_okD ss (xs (4 * i + 1)) v) v ss (xs (4 * i + 1)).toNatClampNeg).2.2.2.1)))), ((h 7), .inl (k 1, 200, .inl ((dd_mvD (dd_okD ss (xs (4 * i + 1)) v) v ss (xs (4 * i + 1)).toNatClampNeg).2.2.2.2))), ((h 8), .inr (3, [.ref (h 9), .ref (h 10), .int (nI z)])), ((h 9), .inl (k 2, 120, .inl bt)), ((h 10), .inl (k 2, 20, .inl dg)), ((h 11), .inl (k 3, 5, .inr (.inr (.inr (.inr (fun i => some (ad i))))))), ((h 12), .inr (4, [.long tk, .ref (h 13), .int (nI (dd_mvN (dd_okM op mf mb mv (xs (4 * i + 1)) v) v mv)), .ref (h 14), .ref (h 15), .int (nI z), .ref (h 16)])), ((h 13), .inl (k 0, 200, .inr (.inl op))), ((h 14), .inl (k 1, 520, .inl (dd_mvF (dd_okM op mf mb mv (xs (4 * i + 1)) v) v mf mv (xs (4 * i + 1))))), ((h 15), .inl (k 0, 520, .inr (.inl (dd_mvB (dd_okM op mf mb mv (xs (4 * i + 1)) v) v mb mv)))), ((h 16), .inl (k 1, 120, .inl tx))] H := hP.sub [0, 1, 2, 3, 4, 5, 6, 7, 8, 9, 10, 11, 12, 13, 14, 15, 16] rfl
      have hD : va_D A [((h 0), .inr (0, [.ref (h 1), .ref (h 2), .ref (h 8)])), ((h 1), .inr (1, [.ref (h 11), .int day, .int tick])), ((h 2), .inr (2, [.ref (h 3), .ref (h 4), .ref (h 5), .ref (h 6), .ref (h 7)])), ((h 3), .inl (k 0, 200, .inr (.inl ((dd_mvD (dd_okD ss (xs (4 * i + 1)) v) v ss (xs (4 * i + 1)).toNatClampNeg).1)))), ((h 4), .inl (k 0, 200, .inr (.inl ((dd_mvD (dd_okD ss (xs (4 * i + 1)) v) v ss (xs (4 * i + 1)).toNatClampNeg).2.1)))), ((h 5), .inl (k 0, 200, .inr (.inl ((dd_mvD (dd_okD ss (xs (4 * i + 1)) v) v ss (xs (4 * i + 1)).toNatClampNeg).2.2.1)))), ((h 6), .inl (k 0, 200, .inr (.inl ((dd_mvD (dd_okD ss (xs (4 * i + 1)) v) v ss (xs (4 * i + 1)).toNatClampNeg).2.2.2.1)))), ((h 7), .inl (k 1, 200, .inl ((dd_mvD (dd_okD ss (xs (4 * i + 1)) v) v ss (xs (4 * i + 1)).toNatClampNeg).2.2.2.2))), ((h 8), .inr (3, [.ref (h 9), .ref (h 10), .int (nI z)])), ((h 9), .inl (k 2, 120, .inl bt)), ((h 10), .inl (k 2, 20, .inl dg)), ((h 11), .inl (k 3, 5, .inr (.inr (.inr (.inr (fun i => some (ad i))))))), ((h 12), .inr (4, [.long tk, .ref (h 13), .int (nI (dd_mvN (dd_okM op mf mb mv (xs (4 * i + 1)) v) v mv)), .ref (h 14), .ref (h 15), .int (nI z), .ref (h 16)])), ((h 13), .inl (k 0, 200, .inr (.inl op))), ((h 14), .inl (k 1, 520, .inl (dd_mvF (dd_okM op mf mb mv (xs (4 * i + 1)) v) v mf mv (xs (4 * i + 1))))), ((h 15), .inl (k 0, 520, .inr (.inl (dd_mvB (dd_okM op mf mb mv (xs (4 * i + 1)) v) v mb mv)))), ((h 16), .inl (k 1, 120, .inl tx))] := hD.sub [0, 1, 2, 3, 4, 5, 6, 7, 8, 9, 10, 11, 12, 13, 14, 15, 16] (by decide) rfl
      refine lv_icmp_eq (tgt := 368) hx hb d_law_260 (by decide) (fun c_23 => ?_) (fun c_23 => ?_)
      · refine lv_iinc (v := (nI (4 * (i + 1)))) (lv' := [(3, .int (nI (4 * (i + 1)))), (2, .ref (h 12)), (1, .ref (h 0)), (0, .ref b)]) hx hb d_law_368 hl (k := 0) rfl (dd_inc4 i) (by decide) rfl (fun ls hl => ?_)
        refine lv_goto (tgt := 18) hx hb d_law_371 (by decide) ?_
        exact ih18 (ls, (i + 1), day, tick, (dd_mvD (dd_okD ss (xs (4 * i + 1)) v) v ss (xs (4 * i + 1)).toNatClampNeg), bt, dg, tk, op, (dd_mvN (dd_okM op mf mb mv (xs (4 * i + 1)) v) v mv), (dd_mvF (dd_okM op mf mb mv (xs (4 * i + 1)) v) v mf mv (xs (4 * i + 1))), (dd_mvB (dd_okM op mf mb mv (xs (4 * i + 1)) v) v mb mv), z, tx) _ _ ⟨lv_sub hl [0, 1, 2, 3] rfl, by omega, hR2, hP, hD, hS⟩ (by dsimp only; omega)
      · exact absurd hp2.2 c_23
    by_cases s_5 : xw = 5
    · subst s_5
      refine lv_tableIn (tgt := 265) hx hb d_law_32 (by decide) (by decide) rfl (by decide) ?_
      have hR2 := hR.keep
      refine lv_aload_n hx hb d_law_265 rfl (lv_at hl 2 rfl) ?_
      refine lv_aload_n hx hb d_law_266 rfl (lv_at hl 3 rfl) ?_
      refine lv_iload_n hx hb d_law_267 rfl (lv_at hl 0 rfl) ?_
      refine lv_iconst (v := 1) hx hb d_law_268 (by decide) ?_
      refine lv_iadd hx hb d_law_269 ?_
      refine dd_sld (j := (4 * i + 1)) hx hb hX hbl hbA hS (nI_1 _) (by omega) (by omega) d_law_270 ?_
      refine lv_aload_n hx hb d_law_271 rfl (lv_at hl 3 rfl) ?_
      refine lv_iload_n hx hb d_law_272 rfl (lv_at hl 0 rfl) ?_
      refine lv_iconst (v := 2) hx hb d_law_273 (by decide) ?_
      refine lv_iadd hx hb d_law_274 ?_
      refine dd_sld (j := (4 * i + 2)) hx hb hX hbl hbA hS (nI_add _ 2) (by omega) (by omega) d_law_275 ?_
      have hPc := hP.sub (ws' := [((h 0), .inr (0, [.ref (h 1), .ref (h 2), .ref (h 8)])), ((h 2), .inr (2, [.ref (h 3), .ref (h 4), .ref (h 5), .ref (h 6), .ref (h 7)])), ((h 3), .inl (k 0, 200, .inr (.inl ss.1))), ((h 4), .inl (k 0, 200, .inr (.inl ss.2.1))), ((h 5), .inl (k 0, 200, .inr (.inl ss.2.2.1))), ((h 6), .inl (k 0, 200, .inr (.inl ss.2.2.2.1))), ((h 7), .inl (k 1, 200, .inl ss.2.2.2.2))]) [0, 2, 3, 4, 5, 6, 7] rfl
      refine vp_callSl (va_Run.run (va_runV (As := [.int (xs (4 * i + 1)), .int (xs (4 * i + 2))]) (rest := []) ⟨hx, hb, hml, hown, htb⟩ (c_D_row l D k h ss (xs (4 * i + 1)) (xs (4 * i + 2))) (cwV 2 htb (dd_gV tb_175 tb_176 tb_177 tb_1 tb_178) rfl rfl rfl hd_D_row ⟨Nat.le_of_ble_eq_true rfl, Nat.le_of_ble_eq_true rfl⟩) ⟨dd_PR.bl, va_recv hK hPc (ci := 0) (q0 := 0) rfl rfl, dd_PR.of hPc hK hN⟩ rfl rfl hl.1 rfl (lv_room (Nat.le_of_ble_eq_true rfl)) d_law_276 ⟨Nat.le_of_ble_eq_true rfl, Nat.le_of_ble_eq_true rfl⟩)) (fun r_24 er_24 => ?_)
      subst er_24
      refine lv_aload_n hx hb d_law_279 rfl (lv_at hl 1 rfl) ?_
      refine lv_aload_n hx hb d_law_280 rfl (lv_at hl 3 rfl) ?_
      refine lv_iload_n hx hb d_law_281 rfl (lv_at hl 0 rfl) ?_
      refine lv_iconst (v := 1) hx hb d_law_282 (by decide) ?_
      refine lv_iadd hx hb d_law_283 ?_
      refine dd_sld (j := (4 * i + 1)) hx hb hX hbl hbA hS (nI_1 _) (by omega) (by omega) d_law_284 ?_
      refine lv_aload_n hx hb d_law_285 rfl (lv_at hl 3 rfl) ?_
      refine lv_iload_n hx hb d_law_286 rfl (lv_at hl 0 rfl) ?_
      refine lv_iconst (v := 2) hx hb d_law_287 (by decide) ?_
      refine lv_iadd hx hb d_law_288 ?_
      refine dd_sld (j := (4 * i + 2)) hx hb hX hbl hbA hS (nI_add _ 2) (by omega) (by omega) d_law_289 ?_
      have hPc := hP.sub (ws' := [((h 12), .inr (4, [.long tk, .ref (h 13), .int (nI mv), .ref (h 14), .ref (h 15), .int (nI z), .ref (h 16)])), ((h 13), .inl (k 0, 200, .inr (.inl op))), ((h 14), .inl (k 1, 520, .inl mf)), ((h 15), .inl (k 0, 520, .inr (.inl mb))), ((h 16), .inl (k 1, 120, .inl tx))]) [12, 13, 14, 15, 16] rfl
      refine vp_callSl (va_Run.run (va_runV (As := [.int (xs (4 * i + 1)), .int (xs (4 * i + 2))]) (rest := [.long (dd_rowD ss (xs (4 * i + 1)) (xs (4 * i + 2)))]) ⟨hx, hb, hml, hown, htb⟩ (c_M_row l D k h tk op mv mf mb (nI z) tx (by omega) (xs (4 * i + 1)) (xs (4 * i + 2))) (cwV 2 htb (dd_gV tb_287 tb_250 tb_251 tb_7 tb_252) rfl rfl rfl hd_M_row ⟨Nat.le_of_ble_eq_true rfl, Nat.le_of_ble_eq_true rfl⟩) ⟨dd_PR.bl, va_recv hK hPc (ci := 4) (q0 := 0) rfl rfl, dd_PR.of hPc hK hN⟩ rfl rfl hl.1 rfl (lv_room (Nat.le_of_ble_eq_true rfl)) d_law_290 ⟨Nat.le_of_ble_eq_true rfl, Nat.le_of_ble_eq_true rfl⟩)) (fun r_25 er_25 => ?_)
      subst er_25
      refine dd_lc_eq (tgt := 368) hx hb d_law_293 d_law_294 (by decide) (fun c_26 => ?_) (fun c_26 => ?_)
      · refine lv_iinc (v := (nI (4 * (i + 1)))) (lv' := [(3, .int (nI (4 * (i + 1)))), (2, .ref (h 12)), (1, .ref (h 0)), (0, .ref b)]) hx hb d_law_368 hl (k := 0) rfl (dd_inc4 i) (by decide) rfl (fun ls hl => ?_)
        refine lv_goto (tgt := 18) hx hb d_law_371 (by decide) ?_
        exact ih18 (ls, (i + 1), day, tick, ss, bt, dg, tk, op, mv, mf, mb, z, tx) _ _ ⟨lv_sub hl [0, 1, 2, 3] rfl, by omega, hR2, hP, hD, hS⟩ (by dsimp only; omega)
      · exact absurd (dd_row_eq hRS (by omega) _ _) c_26
    by_cases s_6 : xw = 6
    · subst s_6
      refine lv_tableIn (tgt := 299) hx hb d_law_32 (by decide) (by decide) rfl (by decide) ?_
      have hR2 := hR.keep
      refine lv_aload_n hx hb d_law_299 rfl (lv_at hl 2 rfl) ?_
      refine lv_aload_n hx hb d_law_300 rfl (lv_at hl 3 rfl) ?_
      refine lv_iload_n hx hb d_law_301 rfl (lv_at hl 0 rfl) ?_
      refine lv_iconst (v := 1) hx hb d_law_302 (by decide) ?_
      refine lv_iadd hx hb d_law_303 ?_
      refine dd_sld (j := (4 * i + 1)) hx hb hX hbl hbA hS (nI_1 _) (by omega) (by omega) d_law_304 ?_
      have hPc := hP.sub (ws' := [((h 0), .inr (0, [.ref (h 1), .ref (h 2), .ref (h 8)])), ((h 2), .inr (2, [.ref (h 3), .ref (h 4), .ref (h 5), .ref (h 6), .ref (h 7)])), ((h 3), .inl (k 0, 200, .inr (.inl ss.1))), ((h 4), .inl (k 0, 200, .inr (.inl ss.2.1))), ((h 5), .inl (k 0, 200, .inr (.inl ss.2.2.1))), ((h 6), .inl (k 0, 200, .inr (.inl ss.2.2.2.1))), ((h 7), .inl (k 1, 200, .inl ss.2.2.2.2))]) [0, 2, 3, 4, 5, 6, 7] rfl
      refine vp_callSi (va_Run.run (va_runV (As := [.int (xs (4 * i + 1))]) (rest := []) ⟨hx, hb, hml, hown, htb⟩ (c_D_isTold l D k h ss (xs (4 * i + 1))) (cwV 1 htb (dd_gV tb_183 tb_184 tb_185 tb_1 tb_186) rfl rfl rfl hd_D_isTold ⟨Nat.le_of_ble_eq_true rfl, Nat.le_of_ble_eq_true rfl⟩) ⟨dd_PR.bl, va_recv hK hPc (ci := 0) (q0 := 0) rfl rfl, dd_PR.of hPc hK hN⟩ rfl rfl hl.1 rfl (lv_room (Nat.le_of_ble_eq_true rfl)) d_law_305 ⟨Nat.le_of_ble_eq_true rfl, Nat.le_of_ble_eq_true rfl⟩)) (fun r_27 er_27 => ?_)
      subst er_27
      refine lv_aload_n hx hb d_law_308 rfl (lv_at hl 1 rfl) ?_
      refine lv_aload_n hx hb d_law_309 rfl (lv_at hl 3 rfl) ?_
      refine lv_iload_n hx hb d_law_310 rfl (lv_at hl 0 rfl) ?_
      refine lv_iconst (v := 1) hx hb d_law_311 (by decide) ?_
      refine lv_iadd hx hb d_law_312 ?_
      refine dd_sld (j := (4 * i + 1)) hx hb hX hbl hbA hS (nI_1 _) (by omega) (by omega) d_law_313 ?_
      have hPc := hP.sub (ws' := [((h 12), .inr (4, [.long tk, .ref (h 13), .int (nI mv), .ref (h 14), .ref (h 15), .int (nI z), .ref (h 16)])), ((h 13), .inl (k 0, 200, .inr (.inl op))), ((h 14), .inl (k 1, 520, .inl mf)), ((h 15), .inl (k 0, 520, .inr (.inl mb))), ((h 16), .inl (k 1, 120, .inl tx))]) [12, 13, 14, 15, 16] rfl
      refine vp_callSi (va_Run.run (va_runV (As := [.int (xs (4 * i + 1))]) (rest := [.int (dd_tdD ss (xs (4 * i + 1)))]) ⟨hx, hb, hml, hown, htb⟩ (c_M_isTold l D k h tk op mv mf mb (nI z) tx (by omega) (xs (4 * i + 1))) (cwV 1 htb (dd_gV tb_288 tb_289 tb_290 tb_7 tb_291) rfl rfl rfl hd_M_isTold ⟨Nat.le_of_ble_eq_true rfl, Nat.le_of_ble_eq_true rfl⟩) ⟨dd_PR.bl, va_recv hK hPc (ci := 4) (q0 := 0) rfl rfl, dd_PR.of hPc hK hN⟩ rfl rfl hl.1 rfl (lv_room (Nat.le_of_ble_eq_true rfl)) d_law_314 ⟨Nat.le_of_ble_eq_true rfl, Nat.le_of_ble_eq_true rfl⟩)) (fun r_28 er_28 => ?_)
      subst er_28
      refine lv_icmp_eq (tgt := 368) hx hb d_law_317 (by decide) (fun c_29 => ?_) (fun c_29 => ?_)
      · refine lv_iinc (v := (nI (4 * (i + 1)))) (lv' := [(3, .int (nI (4 * (i + 1)))), (2, .ref (h 12)), (1, .ref (h 0)), (0, .ref b)]) hx hb d_law_368 hl (k := 0) rfl (dd_inc4 i) (by decide) rfl (fun ls hl => ?_)
        refine lv_goto (tgt := 18) hx hb d_law_371 (by decide) ?_
        exact ih18 (ls, (i + 1), day, tick, ss, bt, dg, tk, op, mv, mf, mb, z, tx) _ _ ⟨lv_sub hl [0, 1, 2, 3] rfl, by omega, hR2, hP, hD, hS⟩ (by dsimp only; omega)
      · exact absurd (dd_told_eq hRS (by omega) _) c_29
    by_cases s_7 : xw = 7
    · subst s_7
      refine lv_tableIn (tgt := 322) hx hb d_law_32 (by decide) (by decide) rfl (by decide) ?_
      by_cases hbad : dd_isP (xs (4 * i + 1)) = 0
      · have hR2 := hR.keep
        refine lv_aload_n hx hb d_law_322 rfl (lv_at hl 2 rfl) ?_
        refine lv_aload_n hx hb d_law_323 rfl (lv_at hl 3 rfl) ?_
        refine lv_iload_n hx hb d_law_324 rfl (lv_at hl 0 rfl) ?_
        refine lv_iconst (v := 1) hx hb d_law_325 (by decide) ?_
        refine lv_iadd hx hb d_law_326 ?_
        refine dd_sld (j := (4 * i + 1)) hx hb hX hbl hbA hS (nI_1 _) (by omega) (by omega) d_law_327 ?_
        have hPc := hP.sub (ws' := [((h 0), .inr (0, [.ref (h 1), .ref (h 2), .ref (h 8)])), ((h 2), .inr (2, [.ref (h 3), .ref (h 4), .ref (h 5), .ref (h 6), .ref (h 7)])), ((h 3), .inl (k 0, 200, .inr (.inl ss.1))), ((h 4), .inl (k 0, 200, .inr (.inl ss.2.1))), ((h 5), .inl (k 0, 200, .inr (.inl ss.2.2.1))), ((h 6), .inl (k 0, 200, .inr (.inl ss.2.2.2.1))), ((h 7), .inl (k 1, 200, .inl ss.2.2.2.2)), ((h 8), .inr (3, [.ref (h 9), .ref (h 10), .int (nI z)])), ((h 9), .inl (k 2, 120, .inl bt)), ((h 10), .inl (k 2, 20, .inl dg))]) [0, 2, 3, 4, 5, 6, 7, 8, 9, 10] rfl
        have hDc := hD.sub (ws' := [((h 0), .inr (0, [.ref (h 1), .ref (h 2), .ref (h 8)])), ((h 2), .inr (2, [.ref (h 3), .ref (h 4), .ref (h 5), .ref (h 6), .ref (h 7)])), ((h 3), .inl (k 0, 200, .inr (.inl ss.1))), ((h 4), .inl (k 0, 200, .inr (.inl ss.2.1))), ((h 5), .inl (k 0, 200, .inr (.inl ss.2.2.1))), ((h 6), .inl (k 0, 200, .inr (.inl ss.2.2.2.1))), ((h 7), .inl (k 1, 200, .inl ss.2.2.2.2)), ((h 8), .inr (3, [.ref (h 9), .ref (h 10), .int (nI z)])), ((h 9), .inl (k 2, 120, .inl bt)), ((h 10), .inl (k 2, 20, .inl dg))]) [0, 2, 3, 4, 5, 6, 7, 8, 9, 10] (by decide) rfl
        refine dd_mi (wc := [((h 0), .inr (0, [.ref (h 1), .ref (h 2), .ref (h 8)])), ((h 2), .inr (2, [.ref (h 3), .ref (h 4), .ref (h 5), .ref (h 6), .ref (h 7)])), ((h 3), .inl (k 0, 200, .inr (.inl ss.1))), ((h 4), .inl (k 0, 200, .inr (.inl ss.2.1))), ((h 5), .inl (k 0, 200, .inr (.inl ss.2.2.1))), ((h 6), .inl (k 0, 200, .inr (.inl ss.2.2.2.1))), ((h 7), .inl (k 1, 200, .inl ss.2.2.2.2)), ((h 8), .inr (3, [.ref (h 9), .ref (h 10), .int (nI z)])), ((h 9), .inl (k 2, 120, .inl bt)), ((h 10), .inl (k 2, 20, .inl dg))]) (wr := [((h 1), .inr (1, [.ref (h 11), .int day, .int tick])), ((h 11), .inl (k 3, 5, .inr (.inr (.inr (.inr (fun i => some (ad i))))))), ((h 12), .inr (4, [.long tk, .ref (h 13), .int (nI mv), .ref (h 14), .ref (h 15), .int (nI z), .ref (h 16)])), ((h 13), .inl (k 0, 200, .inr (.inl op))), ((h 14), .inl (k 1, 520, .inl mf)), ((h 15), .inl (k 0, 520, .inr (.inl mb))), ((h 16), .inl (k 1, 120, .inl tx))]) (va_runV (As := [.int (xs (4 * i + 1))]) (rest := []) ⟨hx, hb, hml, hown, htb⟩ (c_D_write_bad l D k h H.size ss bt dg (nI z) (xs (4 * i + 1)) hbad) (cwV 1 htb (dd_gV tb_191 tb_192 tb_193 tb_1 tb_194) rfl rfl rfl hd_D_write ⟨Nat.le_of_ble_eq_true rfl, Nat.le_of_ble_eq_true rfl⟩) ⟨dd_PM.bl, va_recv hK hPc (ci := 0) (q0 := 0) rfl rfl, dd_PM.of hPc hDc hK hN⟩ rfl rfl hl.1 rfl (lv_room (Nat.le_of_ble_eq_true rfl)) d_law_328 ⟨Nat.le_of_ble_eq_true rfl, Nat.le_of_ble_eq_true rfl⟩) hP hD hS hA [0, 2, 3, 4, 5, 6, 7, 8, 9, 10] [1, 11, 12, 13, 14, 15, 16] rfl rfl (by decide) (by decide) (fun r_30 u H locs hw hP hD hS => ?_)
        obtain ⟨rfl, rfl⟩ := hw
        have hP : va_P D dd_cl [((h 0), .inr (0, [.ref (h 1), .ref (h 2), .ref (h 8)])), ((h 1), .inr (1, [.ref (h 11), .int day, .int tick])), ((h 2), .inr (2, [.ref (h 3), .ref (h 4), .ref (h 5), .ref (h 6), .ref (h 7)])), ((h 3), .inl (k 0, 200, .inr (.inl ss.1))), ((h 4), .inl (k 0, 200, .inr (.inl ss.2.1))), ((h 5), .inl (k 0, 200, .inr (.inl ss.2.2.1))), ((h 6), .inl (k 0, 200, .inr (.inl ss.2.2.2.1))), ((h 7), .inl (k 1, 200, .inl ss.2.2.2.2)), ((h 8), .inr (3, [.ref (h 9), .ref (h 10), .int (nI z)])), ((h 9), .inl (k 2, 120, .inl bt)), ((h 10), .inl (k 2, 20, .inl dg)), ((h 11), .inl (k 3, 5, .inr (.inr (.inr (.inr (fun i => some (ad i))))))), ((h 12), .inr (4, [.long tk, .ref (h 13), .int (nI mv), .ref (h 14), .ref (h 15), .int (nI z), .ref (h 16)])), ((h 13), .inl (k 0, 200, .inr (.inl op))), ((h 14), .inl (k 1, 520, .inl mf)), ((h 15), .inl (k 0, 520, .inr (.inl mb))), ((h 16), .inl (k 1, 120, .inl tx))] H := hP.sub [7, 0, 8, 9, 10, 11, 12, 13, 14, 15, 16, 1, 2, 3, 4, 5, 6] rfl
        have hD : va_D A [((h 0), .inr (0, [.ref (h 1), .ref (h 2), .ref (h 8)])), ((h 1), .inr (1, [.ref (h 11), .int day, .int tick])), ((h 2), .inr (2, [.ref (h 3), .ref (h 4), .ref (h 5), .ref (h 6), .ref (h 7)])), ((h 3), .inl (k 0, 200, .inr (.inl ss.1))), ((h 4), .inl (k 0, 200, .inr (.inl ss.2.1))), ((h 5), .inl (k 0, 200, .inr (.inl ss.2.2.1))), ((h 6), .inl (k 0, 200, .inr (.inl ss.2.2.2.1))), ((h 7), .inl (k 1, 200, .inl ss.2.2.2.2)), ((h 8), .inr (3, [.ref (h 9), .ref (h 10), .int (nI z)])), ((h 9), .inl (k 2, 120, .inl bt)), ((h 10), .inl (k 2, 20, .inl dg)), ((h 11), .inl (k 3, 5, .inr (.inr (.inr (.inr (fun i => some (ad i))))))), ((h 12), .inr (4, [.long tk, .ref (h 13), .int (nI mv), .ref (h 14), .ref (h 15), .int (nI z), .ref (h 16)])), ((h 13), .inl (k 0, 200, .inr (.inl op))), ((h 14), .inl (k 1, 520, .inl mf)), ((h 15), .inl (k 0, 520, .inr (.inl mb))), ((h 16), .inl (k 1, 120, .inl tx))] := hD.sub [7, 0, 8, 9, 10, 11, 12, 13, 14, 15, 16, 1, 2, 3, 4, 5, 6] (by decide) rfl
        refine lv_aload_n hx hb d_law_331 rfl (lv_at hl 1 rfl) ?_
        refine lv_aload_n hx hb d_law_332 rfl (lv_at hl 3 rfl) ?_
        refine lv_iload_n hx hb d_law_333 rfl (lv_at hl 0 rfl) ?_
        refine lv_iconst (v := 1) hx hb d_law_334 (by decide) ?_
        refine lv_iadd hx hb d_law_335 ?_
        refine dd_sld (j := (4 * i + 1)) hx hb hX hbl hbA hS (nI_1 _) (by omega) (by omega) d_law_336 ?_
        have hPc := hP.sub (ws' := [((h 12), .inr (4, [.long tk, .ref (h 13), .int (nI mv), .ref (h 14), .ref (h 15), .int (nI z), .ref (h 16)])), ((h 13), .inl (k 0, 200, .inr (.inl op))), ((h 14), .inl (k 1, 520, .inl mf)), ((h 15), .inl (k 0, 520, .inr (.inl mb))), ((h 16), .inl (k 1, 120, .inl tx))]) [12, 13, 14, 15, 16] rfl
        have hDc := hD.sub (ws' := [((h 12), .inr (4, [.long tk, .ref (h 13), .int (nI mv), .ref (h 14), .ref (h 15), .int (nI z), .ref (h 16)])), ((h 13), .inl (k 0, 200, .inr (.inl op))), ((h 14), .inl (k 1, 520, .inl mf)), ((h 15), .inl (k 0, 520, .inr (.inl mb))), ((h 16), .inl (k 1, 120, .inl tx))]) [12, 13, 14, 15, 16] (by decide) rfl
        refine dd_mi (wc := [((h 12), .inr (4, [.long tk, .ref (h 13), .int (nI mv), .ref (h 14), .ref (h 15), .int (nI z), .ref (h 16)])), ((h 13), .inl (k 0, 200, .inr (.inl op))), ((h 14), .inl (k 1, 520, .inl mf)), ((h 15), .inl (k 0, 520, .inr (.inl mb))), ((h 16), .inl (k 1, 120, .inl tx))]) (wr := [((h 0), .inr (0, [.ref (h 1), .ref (h 2), .ref (h 8)])), ((h 1), .inr (1, [.ref (h 11), .int day, .int tick])), ((h 2), .inr (2, [.ref (h 3), .ref (h 4), .ref (h 5), .ref (h 6), .ref (h 7)])), ((h 3), .inl (k 0, 200, .inr (.inl ss.1))), ((h 4), .inl (k 0, 200, .inr (.inl ss.2.1))), ((h 5), .inl (k 0, 200, .inr (.inl ss.2.2.1))), ((h 6), .inl (k 0, 200, .inr (.inl ss.2.2.2.1))), ((h 7), .inl (k 1, 200, .inl ss.2.2.2.2)), ((h 8), .inr (3, [.ref (h 9), .ref (h 10), .int (nI z)])), ((h 9), .inl (k 2, 120, .inl bt)), ((h 10), .inl (k 2, 20, .inl dg)), ((h 11), .inl (k 3, 5, .inr (.inr (.inr (.inr (fun i => some (ad i)))))))]) (va_runV (As := [.int (xs (4 * i + 1))]) (rest := [.int (-1)]) ⟨hx, hb, hml, hown, htb⟩ (c_M_write_bad l D k h H.size tk op mv mf mb (nI z) tx (xs (4 * i + 1)) hbad) (cwV 1 htb (dd_gV tb_292 tb_293 tb_294 tb_7 tb_295) rfl rfl rfl hd_M_write ⟨Nat.le_of_ble_eq_true rfl, Nat.le_of_ble_eq_true rfl⟩) ⟨dd_PM.bl, va_recv hK hPc (ci := 4) (q0 := 0) rfl rfl, dd_PM.of hPc hDc hK hN⟩ rfl rfl hl.1 rfl (lv_room (Nat.le_of_ble_eq_true rfl)) d_law_337 ⟨Nat.le_of_ble_eq_true rfl, Nat.le_of_ble_eq_true rfl⟩) hP hD hS hA [12, 13, 14, 15, 16] [0, 1, 2, 3, 4, 5, 6, 7, 8, 9, 10, 11] rfl rfl (by decide) (by decide) (fun r_31 u H locs hw hP hD hS => ?_)
        obtain ⟨rfl, rfl⟩ := hw
        have hP : va_P D dd_cl [((h 0), .inr (0, [.ref (h 1), .ref (h 2), .ref (h 8)])), ((h 1), .inr (1, [.ref (h 11), .int day, .int tick])), ((h 2), .inr (2, [.ref (h 3), .ref (h 4), .ref (h 5), .ref (h 6), .ref (h 7)])), ((h 3), .inl (k 0, 200, .inr (.inl ss.1))), ((h 4), .inl (k 0, 200, .inr (.inl ss.2.1))), ((h 5), .inl (k 0, 200, .inr (.inl ss.2.2.1))), ((h 6), .inl (k 0, 200, .inr (.inl ss.2.2.2.1))), ((h 7), .inl (k 1, 200, .inl ss.2.2.2.2)), ((h 8), .inr (3, [.ref (h 9), .ref (h 10), .int (nI z)])), ((h 9), .inl (k 2, 120, .inl bt)), ((h 10), .inl (k 2, 20, .inl dg)), ((h 11), .inl (k 3, 5, .inr (.inr (.inr (.inr (fun i => some (ad i))))))), ((h 12), .inr (4, [.long tk, .ref (h 13), .int (nI mv), .ref (h 14), .ref (h 15), .int (nI z), .ref (h 16)])), ((h 13), .inl (k 0, 200, .inr (.inl op))), ((h 14), .inl (k 1, 520, .inl mf)), ((h 15), .inl (k 0, 520, .inr (.inl mb))), ((h 16), .inl (k 1, 120, .inl tx))] H := hP.sub [0, 1, 2, 3, 4, 5, 6, 7, 8, 9, 10, 11, 12, 13, 14, 15, 16] rfl
        have hD : va_D A [((h 0), .inr (0, [.ref (h 1), .ref (h 2), .ref (h 8)])), ((h 1), .inr (1, [.ref (h 11), .int day, .int tick])), ((h 2), .inr (2, [.ref (h 3), .ref (h 4), .ref (h 5), .ref (h 6), .ref (h 7)])), ((h 3), .inl (k 0, 200, .inr (.inl ss.1))), ((h 4), .inl (k 0, 200, .inr (.inl ss.2.1))), ((h 5), .inl (k 0, 200, .inr (.inl ss.2.2.1))), ((h 6), .inl (k 0, 200, .inr (.inl ss.2.2.2.1))), ((h 7), .inl (k 1, 200, .inl ss.2.2.2.2)), ((h 8), .inr (3, [.ref (h 9), .ref (h 10), .int (nI z)])), ((h 9), .inl (k 2, 120, .inl bt)), ((h 10), .inl (k 2, 20, .inl dg)), ((h 11), .inl (k 3, 5, .inr (.inr (.inr (.inr (fun i => some (ad i))))))), ((h 12), .inr (4, [.long tk, .ref (h 13), .int (nI mv), .ref (h 14), .ref (h 15), .int (nI z), .ref (h 16)])), ((h 13), .inl (k 0, 200, .inr (.inl op))), ((h 14), .inl (k 1, 520, .inl mf)), ((h 15), .inl (k 0, 520, .inr (.inl mb))), ((h 16), .inl (k 1, 120, .inl tx))] := hD.sub [0, 1, 2, 3, 4, 5, 6, 7, 8, 9, 10, 11, 12, 13, 14, 15, 16] (by decide) rfl
        refine lv_icmp_eq (tgt := 368) hx hb d_law_340 (by decide) (fun c_32 => ?_) (fun c_32 => ?_)
        · refine lv_iinc (v := (nI (4 * (i + 1)))) (lv' := [(3, .int (nI (4 * (i + 1)))), (2, .ref (h 12)), (1, .ref (h 0)), (0, .ref b)]) hx hb d_law_368 hl (k := 0) rfl (dd_inc4 i) (by decide) rfl (fun ls hl => ?_)
          refine lv_goto (tgt := 18) hx hb d_law_371 (by decide) ?_
          exact ih18 (ls, (i + 1), day, tick, ss, bt, dg, tk, op, mv, mf, mb, z, tx) _ _ ⟨lv_sub hl [0, 1, 2, 3] rfl, by omega, hR2, hP, hD, hS⟩ (by dsimp only; omega)
        · exact absurd rfl c_32
      obtain ⟨j, hj, eN⟩ := dd_isP_of hbad
      have hof := fun q => dd_of_eq hRS (by omega) hj q
      obtain ⟨nn, hnn⟩ : ∃ nn : Nat → Nat, ∀ q, dd_isN (dd_ofS ss j (nI q)) (nn q) := ⟨fun q => Classical.choose (dd_isN_ex (dd_ofS ss j (nI q))), fun q => Classical.choose_spec (dd_isN_ex (dd_ofS ss j (nI q)))⟩
      obtain ⟨gg, hgg⟩ : ∃ gg : Nat → List Int32, ∀ q, gg q = dd_txt (dd_ofS ss j (nI q)) (nn q) := ⟨_, fun _ => rfl⟩
      have hlen : (dd_rt gg 5).length ≤ 120 := by have := dd_rt_len (g := gg) (m := 5) (fun q _ => by rw [hgg q]; exact dd_txt_len (hnn q)) 5 (Nat.le_refl 5); omega
      have hR2 := hR.text hlen
      refine lv_aload_n hx hb d_law_322 rfl (lv_at hl 2 rfl) ?_
      refine lv_aload_n hx hb d_law_323 rfl (lv_at hl 3 rfl) ?_
      refine lv_iload_n hx hb d_law_324 rfl (lv_at hl 0 rfl) ?_
      refine lv_iconst (v := 1) hx hb d_law_325 (by decide) ?_
      refine lv_iadd hx hb d_law_326 ?_
      refine dd_sld (j := (4 * i + 1)) hx hb hX hbl hbA hS (nI_1 _) (by omega) (by omega) d_law_327 ?_
      refine lv_topi (fun y_33 ey_33 => ?_)
      obtain rfl : y_33 = (nI j) := ey_33.trans eN
      have hPc := hP.sub (ws' := [((h 0), .inr (0, [.ref (h 1), .ref (h 2), .ref (h 8)])), ((h 2), .inr (2, [.ref (h 3), .ref (h 4), .ref (h 5), .ref (h 6), .ref (h 7)])), ((h 3), .inl (k 0, 200, .inr (.inl ss.1))), ((h 4), .inl (k 0, 200, .inr (.inl ss.2.1))), ((h 5), .inl (k 0, 200, .inr (.inl ss.2.2.1))), ((h 6), .inl (k 0, 200, .inr (.inl ss.2.2.2.1))), ((h 7), .inl (k 1, 200, .inl ss.2.2.2.2)), ((h 8), .inr (3, [.ref (h 9), .ref (h 10), .int (nI z)])), ((h 9), .inl (k 2, 120, .inl bt)), ((h 10), .inl (k 2, 20, .inl dg))]) [0, 2, 3, 4, 5, 6, 7, 8, 9, 10] rfl
      have hDc := hD.sub (ws' := [((h 0), .inr (0, [.ref (h 1), .ref (h 2), .ref (h 8)])), ((h 2), .inr (2, [.ref (h 3), .ref (h 4), .ref (h 5), .ref (h 6), .ref (h 7)])), ((h 3), .inl (k 0, 200, .inr (.inl ss.1))), ((h 4), .inl (k 0, 200, .inr (.inl ss.2.1))), ((h 5), .inl (k 0, 200, .inr (.inl ss.2.2.1))), ((h 6), .inl (k 0, 200, .inr (.inl ss.2.2.2.1))), ((h 7), .inl (k 1, 200, .inl ss.2.2.2.2)), ((h 8), .inr (3, [.ref (h 9), .ref (h 10), .int (nI z)])), ((h 9), .inl (k 2, 120, .inl bt)), ((h 10), .inl (k 2, 20, .inl dg))]) [0, 2, 3, 4, 5, 6, 7, 8, 9, 10] (by decide) rfl
      refine dd_mi (wc := [((h 0), .inr (0, [.ref (h 1), .ref (h 2), .ref (h 8)])), ((h 2), .inr (2, [.ref (h 3), .ref (h 4), .ref (h 5), .ref (h 6), .ref (h 7)])), ((h 3), .inl (k 0, 200, .inr (.inl ss.1))), ((h 4), .inl (k 0, 200, .inr (.inl ss.2.1))), ((h 5), .inl (k 0, 200, .inr (.inl ss.2.2.1))), ((h 6), .inl (k 0, 200, .inr (.inl ss.2.2.2.1))), ((h 7), .inl (k 1, 200, .inl ss.2.2.2.2)), ((h 8), .inr (3, [.ref (h 9), .ref (h 10), .int (nI z)])), ((h 9), .inl (k 2, 120, .inl bt)), ((h 10), .inl (k 2, 20, .inl dg))]) (wr := [((h 1), .inr (1, [.ref (h 11), .int day, .int tick])), ((h 11), .inl (k 3, 5, .inr (.inr (.inr (.inr (fun i => some (ad i))))))), ((h 12), .inr (4, [.long tk, .ref (h 13), .int (nI mv), .ref (h 14), .ref (h 15), .int (nI z), .ref (h 16)])), ((h 13), .inl (k 0, 200, .inr (.inl op))), ((h 14), .inl (k 1, 520, .inl mf)), ((h 15), .inl (k 0, 520, .inr (.inl mb))), ((h 16), .inl (k 1, 120, .inl tx))]) (va_runV (As := [.int (nI j)]) (rest := []) ⟨hx, hb, hml, hown, htb⟩ (c_D_write l D k h H.size ss bt dg (nI z) j hj nn (fun q _ => hnn q) gg (fun q _ => hgg q)) (cwV 1 htb (dd_gV tb_191 tb_192 tb_193 tb_1 tb_194) rfl rfl rfl hd_D_write ⟨Nat.le_of_ble_eq_true rfl, Nat.le_of_ble_eq_true rfl⟩) ⟨dd_PM.bl, va_recv hK hPc (ci := 0) (q0 := 0) rfl rfl, dd_PM.of hPc hDc hK hN⟩ rfl rfl hl.1 rfl (lv_room (Nat.le_of_ble_eq_true rfl)) d_law_328 ⟨Nat.le_of_ble_eq_true rfl, Nat.le_of_ble_eq_true rfl⟩) hP hD hS hA [0, 2, 3, 4, 5, 6, 7, 8, 9, 10] [1, 11, 12, 13, 14, 15, 16] rfl rfl (by decide) (by decide) (fun r_34 u H locs hw hP hD hS => ?_)
      obtain ⟨rfl, hw1, hw2⟩ := hw
      obtain ⟨b_9, dg2, z_9⟩ := u
      dsimp only at hw1 hw2
      subst hw1
      subst hw2
      have hP : va_P D dd_cl [((h 0), .inr (0, [.ref (h 1), .ref (h 2), .ref (h 8)])), ((h 1), .inr (1, [.ref (h 11), .int day, .int tick])), ((h 2), .inr (2, [.ref (h 3), .ref (h 4), .ref (h 5), .ref (h 6), .ref (h 7)])), ((h 3), .inl (k 0, 200, .inr (.inl ss.1))), ((h 4), .inl (k 0, 200, .inr (.inl ss.2.1))), ((h 5), .inl (k 0, 200, .inr (.inl ss.2.2.1))), ((h 6), .inl (k 0, 200, .inr (.inl ss.2.2.2.1))), ((h 7), .inl (k 1, 200, .inl ss.2.2.2.2)), ((h 8), .inr (3, [.ref (h 9), .ref (h 10), .int (nI (dd_rt gg 5).length)])), ((h 9), .inl (k 2, 120, .inl (dd_app bt 0 (dd_rt gg 5)))), ((h 10), .inl (k 2, 20, .inl dg2)), ((h 11), .inl (k 3, 5, .inr (.inr (.inr (.inr (fun i => some (ad i))))))), ((h 12), .inr (4, [.long tk, .ref (h 13), .int (nI mv), .ref (h 14), .ref (h 15), .int (nI z), .ref (h 16)])), ((h 13), .inl (k 0, 200, .inr (.inl op))), ((h 14), .inl (k 1, 520, .inl mf)), ((h 15), .inl (k 0, 520, .inr (.inl mb))), ((h 16), .inl (k 1, 120, .inl tx))] H := hP.sub [7, 0, 8, 9, 10, 11, 12, 13, 14, 15, 16, 1, 2, 3, 4, 5, 6] rfl
      have hD : va_D A [((h 0), .inr (0, [.ref (h 1), .ref (h 2), .ref (h 8)])), ((h 1), .inr (1, [.ref (h 11), .int day, .int tick])), ((h 2), .inr (2, [.ref (h 3), .ref (h 4), .ref (h 5), .ref (h 6), .ref (h 7)])), ((h 3), .inl (k 0, 200, .inr (.inl ss.1))), ((h 4), .inl (k 0, 200, .inr (.inl ss.2.1))), ((h 5), .inl (k 0, 200, .inr (.inl ss.2.2.1))), ((h 6), .inl (k 0, 200, .inr (.inl ss.2.2.2.1))), ((h 7), .inl (k 1, 200, .inl ss.2.2.2.2)), ((h 8), .inr (3, [.ref (h 9), .ref (h 10), .int (nI (dd_rt gg 5).length)])), ((h 9), .inl (k 2, 120, .inl (dd_app bt 0 (dd_rt gg 5)))), ((h 10), .inl (k 2, 20, .inl dg2)), ((h 11), .inl (k 3, 5, .inr (.inr (.inr (.inr (fun i => some (ad i))))))), ((h 12), .inr (4, [.long tk, .ref (h 13), .int (nI mv), .ref (h 14), .ref (h 15), .int (nI z), .ref (h 16)])), ((h 13), .inl (k 0, 200, .inr (.inl op))), ((h 14), .inl (k 1, 520, .inl mf)), ((h 15), .inl (k 0, 520, .inr (.inl mb))), ((h 16), .inl (k 1, 120, .inl tx))] := hD.sub [7, 0, 8, 9, 10, 11, 12, 13, 14, 15, 16, 1, 2, 3, 4, 5, 6] (by decide) rfl
      refine lv_aload_n hx hb d_law_331 rfl (lv_at hl 1 rfl) ?_
      refine lv_aload_n hx hb d_law_332 rfl (lv_at hl 3 rfl) ?_
      refine lv_iload_n hx hb d_law_333 rfl (lv_at hl 0 rfl) ?_
      refine lv_iconst (v := 1) hx hb d_law_334 (by decide) ?_
      refine lv_iadd hx hb d_law_335 ?_
      refine dd_sld (j := (4 * i + 1)) hx hb hX hbl hbA hS (nI_1 _) (by omega) (by omega) d_law_336 ?_
      refine lv_topi (fun y_35 ey_35 => ?_)
      obtain rfl : y_35 = (nI j) := ey_35.trans eN
      have hPc := hP.sub (ws' := [((h 12), .inr (4, [.long tk, .ref (h 13), .int (nI mv), .ref (h 14), .ref (h 15), .int (nI z), .ref (h 16)])), ((h 13), .inl (k 0, 200, .inr (.inl op))), ((h 14), .inl (k 1, 520, .inl mf)), ((h 15), .inl (k 0, 520, .inr (.inl mb))), ((h 16), .inl (k 1, 120, .inl tx))]) [12, 13, 14, 15, 16] rfl
      have hDc := hD.sub (ws' := [((h 12), .inr (4, [.long tk, .ref (h 13), .int (nI mv), .ref (h 14), .ref (h 15), .int (nI z), .ref (h 16)])), ((h 13), .inl (k 0, 200, .inr (.inl op))), ((h 14), .inl (k 1, 520, .inl mf)), ((h 15), .inl (k 0, 520, .inr (.inl mb))), ((h 16), .inl (k 1, 120, .inl tx))]) [12, 13, 14, 15, 16] (by decide) rfl
      refine dd_mi (wc := [((h 12), .inr (4, [.long tk, .ref (h 13), .int (nI mv), .ref (h 14), .ref (h 15), .int (nI z), .ref (h 16)])), ((h 13), .inl (k 0, 200, .inr (.inl op))), ((h 14), .inl (k 1, 520, .inl mf)), ((h 15), .inl (k 0, 520, .inr (.inl mb))), ((h 16), .inl (k 1, 120, .inl tx))]) (wr := [((h 0), .inr (0, [.ref (h 1), .ref (h 2), .ref (h 8)])), ((h 1), .inr (1, [.ref (h 11), .int day, .int tick])), ((h 2), .inr (2, [.ref (h 3), .ref (h 4), .ref (h 5), .ref (h 6), .ref (h 7)])), ((h 3), .inl (k 0, 200, .inr (.inl ss.1))), ((h 4), .inl (k 0, 200, .inr (.inl ss.2.1))), ((h 5), .inl (k 0, 200, .inr (.inl ss.2.2.1))), ((h 6), .inl (k 0, 200, .inr (.inl ss.2.2.2.1))), ((h 7), .inl (k 1, 200, .inl ss.2.2.2.2)), ((h 8), .inr (3, [.ref (h 9), .ref (h 10), .int (nI (dd_rt gg 5).length)])), ((h 9), .inl (k 2, 120, .inl (dd_app bt 0 (dd_rt gg 5)))), ((h 10), .inl (k 2, 20, .inl dg2)), ((h 11), .inl (k 3, 5, .inr (.inr (.inr (.inr (fun i => some (ad i)))))))]) (va_runV (As := [.int (nI j)]) (rest := [.int (nI (dd_rt gg 5).length)]) ⟨hx, hb, hml, hown, htb⟩ (c_M_write l D k h H.size tk op mv mf mb (nI z) tx (by omega) j hj nn (fun q _ => by rw [← hof]; exact hnn q) gg (fun q _ => by rw [← hof]; exact hgg q)) (cwV 1 htb (dd_gV tb_292 tb_293 tb_294 tb_7 tb_295) rfl rfl rfl hd_M_write ⟨Nat.le_of_ble_eq_true rfl, Nat.le_of_ble_eq_true rfl⟩) ⟨dd_PM.bl, va_recv hK hPc (ci := 4) (q0 := 0) rfl rfl, dd_PM.of hPc hDc hK hN⟩ rfl rfl hl.1 rfl (lv_room (Nat.le_of_ble_eq_true rfl)) d_law_337 ⟨Nat.le_of_ble_eq_true rfl, Nat.le_of_ble_eq_true rfl⟩) hP hD hS hA [12, 13, 14, 15, 16] [0, 1, 2, 3, 4, 5, 6, 7, 8, 9, 10, 11] rfl rfl (by decide) (by decide) (fun r_36 u H locs hw hP hD hS => ?_)
      obtain ⟨rfl, rfl⟩ := hw
      have hP : va_P D dd_cl [((h 0), .inr (0, [.ref (h 1), .ref (h 2), .ref (h 8)])), ((h 1), .inr (1, [.ref (h 11), .int day, .int tick])), ((h 2), .inr (2, [.ref (h 3), .ref (h 4), .ref (h 5), .ref (h 6), .ref (h 7)])), ((h 3), .inl (k 0, 200, .inr (.inl ss.1))), ((h 4), .inl (k 0, 200, .inr (.inl ss.2.1))), ((h 5), .inl (k 0, 200, .inr (.inl ss.2.2.1))), ((h 6), .inl (k 0, 200, .inr (.inl ss.2.2.2.1))), ((h 7), .inl (k 1, 200, .inl ss.2.2.2.2)), ((h 8), .inr (3, [.ref (h 9), .ref (h 10), .int (nI (dd_rt gg 5).length)])), ((h 9), .inl (k 2, 120, .inl (dd_app bt 0 (dd_rt gg 5)))), ((h 10), .inl (k 2, 20, .inl dg2)), ((h 11), .inl (k 3, 5, .inr (.inr (.inr (.inr (fun i => some (ad i))))))), ((h 12), .inr (4, [.long tk, .ref (h 13), .int (nI mv), .ref (h 14), .ref (h 15), .int (nI (dd_rt gg 5).length), .ref (h 16)])), ((h 13), .inl (k 0, 200, .inr (.inl op))), ((h 14), .inl (k 1, 520, .inl mf)), ((h 15), .inl (k 0, 520, .inr (.inl mb))), ((h 16), .inl (k 1, 120, .inl (dd_app tx 0 (dd_rt gg 5))))] H := hP.sub [0, 1, 2, 3, 4, 5, 6, 7, 8, 9, 10, 11, 12, 13, 14, 15, 16] rfl
      have hD : va_D A [((h 0), .inr (0, [.ref (h 1), .ref (h 2), .ref (h 8)])), ((h 1), .inr (1, [.ref (h 11), .int day, .int tick])), ((h 2), .inr (2, [.ref (h 3), .ref (h 4), .ref (h 5), .ref (h 6), .ref (h 7)])), ((h 3), .inl (k 0, 200, .inr (.inl ss.1))), ((h 4), .inl (k 0, 200, .inr (.inl ss.2.1))), ((h 5), .inl (k 0, 200, .inr (.inl ss.2.2.1))), ((h 6), .inl (k 0, 200, .inr (.inl ss.2.2.2.1))), ((h 7), .inl (k 1, 200, .inl ss.2.2.2.2)), ((h 8), .inr (3, [.ref (h 9), .ref (h 10), .int (nI (dd_rt gg 5).length)])), ((h 9), .inl (k 2, 120, .inl (dd_app bt 0 (dd_rt gg 5)))), ((h 10), .inl (k 2, 20, .inl dg2)), ((h 11), .inl (k 3, 5, .inr (.inr (.inr (.inr (fun i => some (ad i))))))), ((h 12), .inr (4, [.long tk, .ref (h 13), .int (nI mv), .ref (h 14), .ref (h 15), .int (nI (dd_rt gg 5).length), .ref (h 16)])), ((h 13), .inl (k 0, 200, .inr (.inl op))), ((h 14), .inl (k 1, 520, .inl mf)), ((h 15), .inl (k 0, 520, .inr (.inl mb))), ((h 16), .inl (k 1, 120, .inl (dd_app tx 0 (dd_rt gg 5))))] := hD.sub [0, 1, 2, 3, 4, 5, 6, 7, 8, 9, 10, 11, 12, 13, 14, 15, 16] (by decide) rfl
      refine lv_icmp_eq (tgt := 368) hx hb d_law_340 (by decide) (fun c_37 => ?_) (fun c_37 => ?_)
      · refine lv_iinc (v := (nI (4 * (i + 1)))) (lv' := [(3, .int (nI (4 * (i + 1)))), (2, .ref (h 12)), (1, .ref (h 0)), (0, .ref b)]) hx hb d_law_368 hl (k := 0) rfl (dd_inc4 i) (by decide) rfl (fun ls hl => ?_)
        refine lv_goto (tgt := 18) hx hb d_law_371 (by decide) ?_
        exact ih18 (ls, (i + 1), day, tick, ss, (dd_app bt 0 (dd_rt gg 5)), dg2, tk, op, mv, mf, mb, ((dd_rt gg 5).length), (dd_app tx 0 (dd_rt gg 5))) _ _ ⟨lv_sub hl [0, 1, 2, 3] rfl, by omega, hR2, hP, hD, hS⟩ (by dsimp only; omega)
      · exact absurd rfl c_37
    by_cases s_8 : xw = 8
    · subst s_8
      refine lv_tableIn (tgt := 345) hx hb d_law_32 (by decide) (by decide) rfl (by decide) ?_
      have hR2 := hR.keep
      refine lv_aload_n hx hb d_law_345 rfl (lv_at hl 2 rfl) ?_
      refine lv_aload_n hx hb d_law_346 rfl (lv_at hl 3 rfl) ?_
      refine lv_iload_n hx hb d_law_347 rfl (lv_at hl 0 rfl) ?_
      refine lv_iconst (v := 1) hx hb d_law_348 (by decide) ?_
      refine lv_iadd hx hb d_law_349 ?_
      refine dd_sld (j := (4 * i + 1)) hx hb hX hbl hbA hS (nI_1 _) (by omega) (by omega) d_law_350 ?_
      have hPc := hP.sub (ws' := [((h 0), .inr (0, [.ref (h 1), .ref (h 2), .ref (h 8)])), ((h 8), .inr (3, [.ref (h 9), .ref (h 10), .int (nI z)])), ((h 9), .inl (k 2, 120, .inl bt)), ((h 10), .inl (k 2, 20, .inl dg))]) [0, 8, 9, 10] rfl
      refine vp_callSi (va_Run.run (va_runV (As := [.int (xs (4 * i + 1))]) (rest := []) ⟨hx, hb, hml, hown, htb⟩ (c_D_at l D k h bt dg z hz (xs (4 * i + 1))) (cwV 1 htb (dd_gV tb_204 tb_205 tb_206 tb_1 tb_207) rfl rfl rfl hd_D_at ⟨Nat.le_of_ble_eq_true rfl, Nat.le_of_ble_eq_true rfl⟩) ⟨dd_PR.bl, va_recv hK hPc (ci := 0) (q0 := 0) rfl rfl, dd_PR.of hPc hK hN⟩ rfl rfl hl.1 rfl (lv_room (Nat.le_of_ble_eq_true rfl)) d_law_351 ⟨Nat.le_of_ble_eq_true rfl, Nat.le_of_ble_eq_true rfl⟩)) (fun r_38 er_38 => ?_)
      subst er_38
      refine lv_aload_n hx hb d_law_354 rfl (lv_at hl 1 rfl) ?_
      refine lv_aload_n hx hb d_law_355 rfl (lv_at hl 3 rfl) ?_
      refine lv_iload_n hx hb d_law_356 rfl (lv_at hl 0 rfl) ?_
      refine lv_iconst (v := 1) hx hb d_law_357 (by decide) ?_
      refine lv_iadd hx hb d_law_358 ?_
      refine dd_sld (j := (4 * i + 1)) hx hb hX hbl hbA hS (nI_1 _) (by omega) (by omega) d_law_359 ?_
      have hPc := hP.sub (ws' := [((h 12), .inr (4, [.long tk, .ref (h 13), .int (nI mv), .ref (h 14), .ref (h 15), .int (nI z), .ref (h 16)])), ((h 13), .inl (k 0, 200, .inr (.inl op))), ((h 14), .inl (k 1, 520, .inl mf)), ((h 15), .inl (k 0, 520, .inr (.inl mb))), ((h 16), .inl (k 1, 120, .inl tx))]) [12, 13, 14, 15, 16] rfl
      refine vp_callSi (va_Run.run (va_runV (As := [.int (xs (4 * i + 1))]) (rest := [.int (dd_atM bt z (xs (4 * i + 1)))]) ⟨hx, hb, hml, hown, htb⟩ (c_M_at l D k h tk op mv mf mb z tx hz (xs (4 * i + 1))) (cwV 1 htb (dd_gV tb_305 tb_306 tb_307 tb_7 tb_308) rfl rfl rfl hd_M_at ⟨Nat.le_of_ble_eq_true rfl, Nat.le_of_ble_eq_true rfl⟩) ⟨dd_PR.bl, va_recv hK hPc (ci := 4) (q0 := 0) rfl rfl, dd_PR.of hPc hK hN⟩ rfl rfl hl.1 rfl (lv_room (Nat.le_of_ble_eq_true rfl)) d_law_360 ⟨Nat.le_of_ble_eq_true rfl, Nat.le_of_ble_eq_true rfl⟩)) (fun r_39 er_39 => ?_)
      subst er_39
      refine lv_icmp_eq (tgt := 368) hx hb d_law_363 (by decide) (fun c_40 => ?_) (fun c_40 => ?_)
      · refine lv_iinc (v := (nI (4 * (i + 1)))) (lv' := [(3, .int (nI (4 * (i + 1)))), (2, .ref (h 12)), (1, .ref (h 0)), (0, .ref b)]) hx hb d_law_368 hl (k := 0) rfl (dd_inc4 i) (by decide) rfl (fun ls hl => ?_)
        refine lv_goto (tgt := 18) hx hb d_law_371 (by decide) ?_
        exact ih18 (ls, (i + 1), day, tick, ss, bt, dg, tk, op, mv, mf, mb, z, tx) _ _ ⟨lv_sub hl [0, 1, 2, 3] rfl, by omega, hR2, hP, hD, hS⟩ (by dsimp only; omega)
      · exact absurd (hR.at _) c_40
    refine lv_tableOut (tgt := 368) hx hb d_law_32 (dd_sw9 s_0 s_1 s_2 s_3 s_4 s_5 s_6 s_7 s_8) (by decide) ?_
    have hR2 := hR.keep
    refine lv_iinc (v := (nI (4 * (i + 1)))) (lv' := [(3, .int (nI (4 * (i + 1)))), (2, .ref (h 12)), (1, .ref (h 0)), (0, .ref b)]) hx hb d_law_368 hl (k := 0) rfl (dd_inc4 i) (by decide) rfl (fun ls hl => ?_)
    refine lv_goto (tgt := 18) hx hb d_law_371 (by decide) ?_
    exact ih18 (ls, (i + 1), day, tick, ss, bt, dg, tk, op, mv, mf, mb, z, tx) _ _ ⟨lv_sub hl [0, 1, 2, 3] rfl, by omega, hR2, hP, hD, hS⟩ (by dsimp only; omega)
end
section
/-! the law, from its entry -/
theorem dd_evZ {args : Array Value} {s : State} {C n d : String} {y z : Nat} {A : Nat → Prop} (hZ : va_Z C n d (.ref z) A s s.heap) (hv : (Term.static C n d).eval args s none [] s = some (.ref y)) : y = z := by
  obtain ⟨cf, kf, fi, f, a, cell, h1, h2, h3, h4, h5, h6, h7, h8⟩ := hZ
  obtain ⟨-, a', cell', g1, g2, -, g3⟩ := Term.static_spec h1 hv
  cases h4.symm.trans g1
  cases h5.symm.trans g2
  have := h7.symm.trans g3
  simp at this
  exact this.symm
theorem dd_elemE {args : Array Value} {s : State} {C n d : String} {t : Term} {z : Nat} {A : Nat → Prop} (hZ : va_Z C n d (.ref z) A s s.heap) (h : (Cond.eq t (.static C n d)).before args s = true) (hx : (Cond.exactly (.static C n d) C).before args s = true) : t.eval args s none [] s = some (.ref z) := by
  obtain ⟨y, a1, a2⟩ := Cond.eq_one (args := args) (first := s) (o := none) (s := s) (idx := []) (a := t) (b := .static C n d) h
  obtain ⟨q, c, cell, k, q1, -⟩ := Cond.exactly_spec (args := args) (first := s) (o := none) (s := s) (idx := []) (t := .static C n d) (cls := C) hx
  cases a2.symm.trans q1
  rw [← dd_evZ hZ q1]
  exact a1
theorem dd_five {args : Array Value} {s : State} {t : Nat} {tm : Term} {f : Nat → Value} {A : Nat → Prop} {ty : FieldType} (ht : tm.eval args s none [] s = some (.ref t)) (hlen : (Term.length tm).eval args s none [] s = some (.int 5)) (hall : (Cond.all tm (.le (.index 0) (.int 4))).before args s = true) (hT : va_T ty t 5 f A s s.heap) : ∃ cell : Cell, s.heap[t]? = some cell ∧ cell.vm ≠ .unknown ∧ (∀ c, cell.vm ≠ .statics c) ∧ cell.slots.size = 5 ∧ (∀ j, j < 5 → cell.slots[j]? = some (f j)) ∧ ¬ A t := by
  obtain ⟨cell, h1, h2, h3, h4, h5, h6, h7⟩ := hT
  obtain ⟨a, cell2, g1, g2, g3⟩ := Term.length_spec hlen
  cases ht.symm.trans g1
  obtain ⟨k1, k2, k3, -⟩ := State.arrayAt?_spec g2
  cases h1.symm.trans k1
  have hv : (Cond.all tm (.le (.index 0) (.int 4))).value args s none s [] = some true := by
    have : ((Cond.all tm (.le (.index 0) (.int 4))).value args s none s [] == some true) = true := hall
    simpa using this
  have hel := Cond.all_elim ht g2 hv
  refine ⟨cell, h1, h3, h2.1, ?_, h6, h7⟩
  rcases Nat.lt_or_ge 5 cell.slots.size with q | q
  · have := hel 5 q
    simp [Cond.value, Term.eval] at this
    exact absurd this (by decide)
  · omega
set_option maxHeartbeats 8000000 in
set_option maxRecDepth 100000 in
/-- the law, from its entry -/
theorem whole_start {p : Program} {e : Env} {s : State} {m : MethodId} {below : List Frame} {meth : Method} {c : Code} (l : Launch) {b L : Nat} {xs : Nat → Int32} (hL : L ≤ 2048) (C0 : lw_At p s m meth c b L xs) : W p l e room_1 s m #[Value.ref b] below meth c s.heap [] 0 0 (lw_Z below #[Value.ref b] s) (entryFrame m ([Value.ref b] : List Value).toArray 4) := by
  obtain ⟨hx, hb, hr, hml, hown0, hts, hX, hbl, hlocks, hgv⟩ := id C0
  have htb : ∀ w ∈ dd_gt, w.before #[Value.ref b] s = true := fun w h => hts w (List.mem_filter.mp h).1
  have hown : s.vm.findClass "DayDeskLaw" = some m.cls := hown0
  have hgf := flat_of_before _ hgv
  obtain ⟨A, hA, hA2⟩ : ∃ A : Nat → Prop, (∀ q : Nat, s.heap.size ≤ q → A q) ∧ (∀ q : Nat, A q → s.heap.size ≤ q) := ⟨fun q => s.heap.size ≤ q, fun _ h => h, fun _ h => h⟩
  have hA3 : ∀ a : Nat, a < s.heap.size → ¬ A a := fun a h z => absurd h (Nat.not_lt.mpr (hA2 a z))
  obtain ⟨c0, iS0, hKn0⟩ := u_known (C := R_D) (T := F_D) (N := 3) (n := 3) htb i_D (htb _ tb_9)
  obtain ⟨c1, iS1, hKn1⟩ := u_known (C := R_C) (T := F_C) (N := 3) (n := 3) htb i_C (htb _ tb_17)
  obtain ⟨c2, iS2, hKn2⟩ := u_known (C := R_S) (T := F_S) (N := 5) (n := 5) htb i_S (htb _ tb_48)
  obtain ⟨c3, iS3, hKn3⟩ := u_known (C := R_W) (T := F_W) (N := 3) (n := 3) htb i_W (htb _ tb_72)
  obtain ⟨c4, iS4, hKn4⟩ := u_known (C := R_M) (T := F_M) (N := 7) (n := 7) htb i_M (htb _ tb_209)
  obtain ⟨dC, dI, hKc⟩ : ∃ (dC : Nat → ClassId) (dI : Nat → Nat → Nat), ∀ (k : Nat) (q : vw_C), dd_cl[k]? = some q → u_Kn s q.1 q.2.1 q.2.2 (dC k) (dI k) := by
    refine ⟨fun k => if k = 0 then c0 else if k = 1 then c1 else if k = 2 then c2 else if k = 3 then c3 else c4, fun k => if k = 0 then iS0 else if k = 1 then iS1 else if k = 2 then iS2 else if k = 3 then iS3 else iS4, ?_⟩
    intro k q hq
    match k, hq with
    | 0, hq => cases hq; exact hKn0
    | 1, hq => cases hq; exact hKn1
    | 2, hq => cases hq; exact hKn2
    | 3, hq => cases hq; exact hKn3
    | 4, hq => cases hq; exact hKn4
    | k + 5, hq => simp [dd_cl] at hq
  obtain ⟨cL, kcL, pcL, fcL, gcL, hcL⟩ := Cond.arrayClass_spec (htb _ tb_69)
  obtain ⟨cI, kcI, pcI, fcI, gcI, hcI⟩ := Cond.arrayClass_spec (htb _ tb_70)
  obtain ⟨cB, kcB, pcB, fcB, gcB, hcB⟩ := Cond.arrayClass_spec (htb _ tb_89)
  obtain ⟨pP, cP, kP, f1P, f2P, gP, hP0, f3P⟩ := Cond.arrayOver_spec (hts _ tx_33)
  have hK : va_K (dC, dI) dd_cl (dd_ty (fun i => [cL, cI, cB, cP].getD i 0)) s := by
    refine ⟨hKc, fun k q hq => ?_⟩
    match k, hq with
    | 0, hq => cases hq; exact ⟨fun n z => ⟨fun k h => (by cases h), kcL, gcL, pcL, hcL⟩, fcL⟩
    | 1, hq => cases hq; exact ⟨fun n z => ⟨fun k h => (by cases h), kcI, gcI, pcI, hcI⟩, fcI⟩
    | 2, hq => cases hq; exact ⟨fun n z => ⟨fun k h => (by cases h), kcB, gcB, pcB, hcB⟩, fcB⟩
    | 3, hq => cases hq; exact ⟨fun n z => ⟨fun k h => (by cases h), kP, gP, pP, hP0⟩, kP, pP, gP, hP0, f1P, f3P⟩
    | k + 4, hq => simp [dd_ty] at hq
  obtain ⟨k, ek⟩ : ∃ k : Nat → ClassId, k = fun i => [cL, cI, cB, cP].getD i 0 := ⟨_, rfl⟩
  rw [← ek] at hK
  have ek3 : k 3 = cP := by rw [ek]; rfl
  obtain ⟨D, eD⟩ : ∃ D : va_G, D = (dC, dI) := ⟨_, rfl⟩
  rw [← eD] at hK
  have hN : dd_N s := ⟨va_Nw.of rfl (hts _ tx_37), va_Nw.of rfl (hts _ tx_39), va_Nw.of rfl (hts _ tx_78), va_Nw.of rfl (hts _ tx_81), va_Nw.of rfl (hts _ tx_310), va_Nw.of rfl (hts _ tx_312), va_Nw.of rfl (hts _ tx_313)⟩
  have hLk : dd_L s := ⟨va_Nw.of rfl (hts _ tx_32), va_Nw.of rfl (hts _ tx_18), va_Nw.of rfl (hts _ tx_73)⟩
  have hlay : ∀ i, i < dd_nm.length → (Cond.laysStatic "DayDesk$Phase" (dd_nm.getD i "") "LDayDesk$Phase;").before #[Value.ref b] s = true := by
    intro i hi
    have hi5 : i < 5 := hi
    rcases (show i = 0 ∨ i = 1 ∨ i = 2 ∨ i = 3 ∨ i = 4 by omega) with rfl | rfl | rfl | rfl | rfl
    · exact hts _ tx_314
    · exact hts _ tx_315
    · exact hts _ tx_138
    · exact hts _ tx_140
    · exact hts _ tx_316
  have hexa : ∀ i, i < dd_nm.length → (Cond.exactly (.static "DayDesk$Phase" (dd_nm.getD i "") "LDayDesk$Phase;") "DayDesk$Phase").before #[Value.ref b] s = true := by
    intro i hi
    have hi5 : i < 5 := hi
    rcases (show i = 0 ∨ i = 1 ∨ i = 2 ∨ i = 3 ∨ i = 4 by omega) with rfl | rfl | rfl | rfl | rfl
    · exact hgf _ (by decide +kernel)
    · exact hgf _ (by decide +kernel)
    · exact hgf _ (by decide +kernel)
    · exact hgf _ (by decide +kernel)
    · exact hgf _ (by decide +kernel)
  have hfld : ∀ q ∈ dd_F, ∀ i, i < dd_nm.length → (Cond.eq (.field (.static "DayDesk$Phase" (dd_nm.getD i "") "LDayDesk$Phase;") q.1 q.2.1 q.2.2.1) (.int (q.2.2.2.getD i 0))).before #[Value.ref b] s = true := by
    intro q hq i hi
    have hi5 : i < 5 := hi
    simp only [List.mem_cons, List.not_mem_nil, or_false] at hq
    rcases hq with rfl | rfl | rfl <;> rcases (show i = 0 ∨ i = 1 ∨ i = 2 ∨ i = 3 ∨ i = 4 by omega) with rfl | rfl | rfl | rfl | rfl
    · exact hgf _ (by decide +kernel)
    · exact hgf _ (by decide +kernel)
    · exact hgf _ (by decide +kernel)
    · exact hgf _ (by decide +kernel)
    · exact hgf _ (by decide +kernel)
    · exact hgf _ (by decide +kernel)
    · exact hgf _ (by decide +kernel)
    · exact hgf _ (by decide +kernel)
    · exact hgf _ (by decide +kernel)
    · exact hgf _ (by decide +kernel)
    · exact hgf _ (by decide +kernel)
    · exact hgf _ (by decide +kernel)
    · exact hgf _ (by decide +kernel)
    · exact hgf _ (by decide +kernel)
    · exact hgf _ (by decide +kernel)
  have hdif : ∀ i j, i < dd_nm.length → j < dd_nm.length → i ≠ j → (Cond.not (.eq (.static "DayDesk$Phase" (dd_nm.getD i "") "LDayDesk$Phase;") (.static "DayDesk$Phase" (dd_nm.getD j "") "LDayDesk$Phase;"))).before #[Value.ref b] s = true ∨ (Cond.not (.eq (.static "DayDesk$Phase" (dd_nm.getD j "") "LDayDesk$Phase;") (.static "DayDesk$Phase" (dd_nm.getD i "") "LDayDesk$Phase;"))).before #[Value.ref b] s = true := by
    intro i j hi hj hij
    have hi5 : i < 5 := hi
    have hj5 : j < 5 := hj
    rcases (show i = 0 ∨ i = 1 ∨ i = 2 ∨ i = 3 ∨ i = 4 by omega) with rfl | rfl | rfl | rfl | rfl <;> rcases (show j = 0 ∨ j = 1 ∨ j = 2 ∨ j = 3 ∨ j = 4 by omega) with rfl | rfl | rfl | rfl | rfl
    · exact absurd rfl hij
    · exact Or.inl (hgf _ (by decide +kernel))
    · exact Or.inr (hgf _ (by decide +kernel))
    · exact Or.inr (hgf _ (by decide +kernel))
    · exact Or.inl (hgf _ (by decide +kernel))
    · exact Or.inr (hgf _ (by decide +kernel))
    · exact absurd rfl hij
    · exact Or.inr (hgf _ (by decide +kernel))
    · exact Or.inr (hgf _ (by decide +kernel))
    · exact Or.inl (hgf _ (by decide +kernel))
    · exact Or.inl (hgf _ (by decide +kernel))
    · exact Or.inl (hgf _ (by decide +kernel))
    · exact absurd rfl hij
    · exact Or.inl (hgf _ (by decide +kernel))
    · exact Or.inl (hgf _ (by decide +kernel))
    · exact Or.inl (hgf _ (by decide +kernel))
    · exact Or.inl (hgf _ (by decide +kernel))
    · exact Or.inr (hgf _ (by decide +kernel))
    · exact absurd rfl hij
    · exact Or.inl (hgf _ (by decide +kernel))
    · exact Or.inr (hgf _ (by decide +kernel))
    · exact Or.inr (hgf _ (by decide +kernel))
    · exact Or.inr (hgf _ (by decide +kernel))
    · exact Or.inr (hgf _ (by decide +kernel))
    · exact absurd rfl hij
  obtain ⟨ad, hE⟩ := va_Enof (args := #[Value.ref b]) (s := s) (E := "DayDesk$Phase") (d := "LDayDesk$Phase;") (nm := dd_nm) (F := dd_F) (A := A) hlay (htb _ tb_4) hexa hfld hdif hA3
  have hE : dd_E ad A s s.heap := hE
  have hlen : (Term.length (Term.static "DayDesk$Phase" "$VALUES" "[LDayDesk$Phase;")).eval #[Value.ref b] s none [] s = some (.int 5) := va_eqt (hgf _ (by decide +kernel))
  have hel : ∀ j : Nat, j < 5 → (Term.elem (Term.static "DayDesk$Phase" "$VALUES" "[LDayDesk$Phase;") (.int (Int32.ofNat j))).eval #[Value.ref b] s none [] s = some (.ref (ad j)) := by
    intro j hj
    rcases (show j = 0 ∨ j = 1 ∨ j = 2 ∨ j = 3 ∨ j = 4 by omega) with rfl | rfl | rfl | rfl | rfl
    · exact dd_elemE (hE.1 0 (by decide)).1 (hgf _ (by decide +kernel)) (hexa 0 (by decide))
    · exact dd_elemE (hE.1 1 (by decide)).1 (hgf _ (by decide +kernel)) (hexa 1 (by decide))
    · exact dd_elemE (hE.1 2 (by decide)).1 (hgf _ (by decide +kernel)) (hexa 2 (by decide))
    · exact dd_elemE (hE.1 3 (by decide)).1 (hgf _ (by decide +kernel)) (hexa 3 (by decide))
    · exact dd_elemE (hE.1 4 (by decide)).1 (hgf _ (by decide +kernel)) (hexa 4 (by decide))
  obtain ⟨tv, htv, hTv⟩ := va_Tof (tm := (Term.static "DayDesk$Phase" "$VALUES" "[LDayDesk$Phase;")) (ty := .object "DayDesk$Phase") (N := 5) (f := fun j => .ref (ad j)) (A := A) (by decide) (hgf _ (by decide +kernel)) hlen hel hA3
  obtain ⟨cell, v1, v2, v3, v4, v5, v6⟩ := dd_five htv hlen (hgf _ (by decide +kernel)) hTv
  have hV : dd_V (k 3) ad tv A s s.heap := by
    refine ⟨va_Zref (hts _ tx_26) (htb _ tb_4) htv hA3, cell, v1, ?_, v2, v3, v4, v5, v6⟩
    obtain ⟨a9, c9, cell9, k9, q1, q2, q3, q4, q5, q6, -⟩ := Cond.exactly_spec (args := #[Value.ref b]) (first := s) (o := none) (s := s) (idx := []) (t := (Term.static "DayDesk$Phase" "$VALUES" "[LDayDesk$Phase;")) (cls := "[LDayDesk$Phase;") (hgf _ (by decide +kernel))
    cases htv.symm.trans q1
    cases v1.symm.trans q3
    have hnm := dd_nm3 (hK.2 3 _ rfl).2
    rw [q6]
    exact Option.some.inj (q2.symm.trans hnm)
  have hS : va_S A s.heap s.heap [] := va_S.rf
  have hP : va_P D dd_cl [] s.heap := fun k q h => by simp at h
  have hD : va_D A [] := ⟨fun i j p q h => by simp at h, fun k q h => by simp at h⟩
  have hl := lv_entry ([.ref b]) (n := 4) (Nat.le_of_ble_eq_true rfl)
  rw [lg_entry_eq]
  generalize (lg_sl ([.ref b]) ++ List.replicate (4 - (lg_sl ([.ref b])).length) Slot.unset).toArray = ls at hl ⊢
  have hl : lv_has ls 4 [(0, .ref b)] := hl
  refine va_new (ci := 0) (fs := [.null, .null, .null]) (C := R_D) (T := F_D) (N := 3) hx hb htb i_D t_D t_D_ok hown (htb _ tb_8) (htb _ tb_9) (htb _ tb_1) hK hP hD hS hA rfl (fun j hj => by rcases (show j = 0 ∨ j = 1 ∨ j = 2 by omega) with rfl | rfl | rfl <;> rfl) (Nat.le_of_ble_eq_true rfl) (Nat.le_of_ble_eq_true rfl) d_law_0 (fun q_1 H hP hD hS => ?_)
  have hP : va_P D dd_cl [(q_1, .inr (0, [.null, .null, .null]))] H := hP
  have hD : va_D A [(q_1, .inr (0, [.null, .null, .null]))] := hD
  refine lv_dup hx hb d_law_3 rfl ?_
  have hPc := hP.sub (ws' := [(q_1, .inr (0, [.null, .null, .null]))]) [0] rfl
  have hDc := hD.sub (ws' := [(q_1, .inr (0, [.null, .null, .null]))]) [0] (by decide) rfl
  have hFc := va_free (wc := [(q_1, .inr (0, [.null, .null, .null]))]) hD hS hA [0] rfl
  refine dd_mv (wc := [(q_1, .inr (0, [.null, .null, .null]))]) (wr := []) (va_runI (As := []) (rest := [.ref q_1]) ⟨hx, hb, hml, hown, htb⟩ (c_D_init l D k ad tv H.size q_1) (cwI 0 htb (dd_gi tb_12) rfl rfl rfl (htb _ tb_1) (htb _ tb_10) (htb _ tb_11) rfl hd_D_init.2 ⟨Nat.le_of_ble_eq_true rfl, Nat.le_of_ble_eq_true rfl⟩) ⟨dd_PV.bl, dd_PV.of hPc hDc hK hN hLk hV hS hFc⟩ rfl rfl hl.1 rfl (lv_room (Nat.le_of_ble_eq_true rfl)) d_law_4 ⟨Nat.le_of_ble_eq_true rfl, Nat.le_of_ble_eq_true rfl⟩) hP hD hS hA [0] [] rfl rfl (by decide) (by decide) (fun u1 H locs hw1 hP9 hD9 hS9 => ?_)
  subst hw1
  have hP := hP9
  have hD := hD9
  have hS := hS9
  have hP : va_P D dd_cl [((u1 0), .inr (0, [.ref (u1 1), .ref (u1 2), .ref (u1 8)])), ((u1 1), .inr (1, [.ref (u1 11), .int 0, .int 0])), ((u1 2), .inr (2, [.ref (u1 3), .ref (u1 4), .ref (u1 5), .ref (u1 6), .ref (u1 7)])), ((u1 3), .inl (k 0, 200, .inr (.inl dd_ss0.1))), ((u1 4), .inl (k 0, 200, .inr (.inl dd_ss0.2.1))), ((u1 5), .inl (k 0, 200, .inr (.inl dd_ss0.2.2.1))), ((u1 6), .inl (k 0, 200, .inr (.inl dd_ss0.2.2.2.1))), ((u1 7), .inl (k 1, 200, .inl dd_ss0.2.2.2.2)), ((u1 8), .inr (3, [.ref (u1 9), .ref (u1 10), .int 0])), ((u1 9), .inl (k 2, 120, .inl (fun _ => 0))), ((u1 10), .inl (k 2, 20, .inl (fun _ => 0))), ((u1 11), .inl (k 3, 5, .inr (.inr (.inr (.inr (fun i => some (ad i)))))))] H := hP
  have hD : va_D A [((u1 0), .inr (0, [.ref (u1 1), .ref (u1 2), .ref (u1 8)])), ((u1 1), .inr (1, [.ref (u1 11), .int 0, .int 0])), ((u1 2), .inr (2, [.ref (u1 3), .ref (u1 4), .ref (u1 5), .ref (u1 6), .ref (u1 7)])), ((u1 3), .inl (k 0, 200, .inr (.inl dd_ss0.1))), ((u1 4), .inl (k 0, 200, .inr (.inl dd_ss0.2.1))), ((u1 5), .inl (k 0, 200, .inr (.inl dd_ss0.2.2.1))), ((u1 6), .inl (k 0, 200, .inr (.inl dd_ss0.2.2.2.1))), ((u1 7), .inl (k 1, 200, .inl dd_ss0.2.2.2.2)), ((u1 8), .inr (3, [.ref (u1 9), .ref (u1 10), .int 0])), ((u1 9), .inl (k 2, 120, .inl (fun _ => 0))), ((u1 10), .inl (k 2, 20, .inl (fun _ => 0))), ((u1 11), .inl (k 3, 5, .inr (.inr (.inr (.inr (fun i => some (ad i)))))))] := hD
  refine lv_astore_n (lv' := [(1, .ref (u1 0)), (0, .ref b)]) hx hb d_law_7 rfl hl (by decide) rfl (fun ls hl => ?_)
  refine va_new (ci := 4) (fs := [.long 0, .null, .int 0, .null, .null, .int 0, .null]) (C := R_M) (T := F_M) (N := 7) hx hb htb i_M t_M t_M_ok hown (htb _ tb_208) (htb _ tb_209) (htb _ tb_7) hK hP hD hS hA rfl (fun j hj => by rcases (show j = 0 ∨ j = 1 ∨ j = 2 ∨ j = 3 ∨ j = 4 ∨ j = 5 ∨ j = 6 by omega) with rfl | rfl | rfl | rfl | rfl | rfl | rfl <;> rfl) (Nat.le_of_ble_eq_true rfl) (Nat.le_of_ble_eq_true rfl) d_law_8 (fun q_2 H hP hD hS => ?_)
  have hP : va_P D dd_cl [((u1 0), .inr (0, [.ref (u1 1), .ref (u1 2), .ref (u1 8)])), ((u1 1), .inr (1, [.ref (u1 11), .int 0, .int 0])), ((u1 2), .inr (2, [.ref (u1 3), .ref (u1 4), .ref (u1 5), .ref (u1 6), .ref (u1 7)])), ((u1 3), .inl (k 0, 200, .inr (.inl dd_ss0.1))), ((u1 4), .inl (k 0, 200, .inr (.inl dd_ss0.2.1))), ((u1 5), .inl (k 0, 200, .inr (.inl dd_ss0.2.2.1))), ((u1 6), .inl (k 0, 200, .inr (.inl dd_ss0.2.2.2.1))), ((u1 7), .inl (k 1, 200, .inl dd_ss0.2.2.2.2)), ((u1 8), .inr (3, [.ref (u1 9), .ref (u1 10), .int 0])), ((u1 9), .inl (k 2, 120, .inl (fun _ => 0))), ((u1 10), .inl (k 2, 20, .inl (fun _ => 0))), ((u1 11), .inl (k 3, 5, .inr (.inr (.inr (.inr (fun i => some (ad i))))))), (q_2, .inr (4, [.long 0, .null, .int 0, .null, .null, .int 0, .null]))] H := hP
  have hD : va_D A [((u1 0), .inr (0, [.ref (u1 1), .ref (u1 2), .ref (u1 8)])), ((u1 1), .inr (1, [.ref (u1 11), .int 0, .int 0])), ((u1 2), .inr (2, [.ref (u1 3), .ref (u1 4), .ref (u1 5), .ref (u1 6), .ref (u1 7)])), ((u1 3), .inl (k 0, 200, .inr (.inl dd_ss0.1))), ((u1 4), .inl (k 0, 200, .inr (.inl dd_ss0.2.1))), ((u1 5), .inl (k 0, 200, .inr (.inl dd_ss0.2.2.1))), ((u1 6), .inl (k 0, 200, .inr (.inl dd_ss0.2.2.2.1))), ((u1 7), .inl (k 1, 200, .inl dd_ss0.2.2.2.2)), ((u1 8), .inr (3, [.ref (u1 9), .ref (u1 10), .int 0])), ((u1 9), .inl (k 2, 120, .inl (fun _ => 0))), ((u1 10), .inl (k 2, 20, .inl (fun _ => 0))), ((u1 11), .inl (k 3, 5, .inr (.inr (.inr (.inr (fun i => some (ad i))))))), (q_2, .inr (4, [.long 0, .null, .int 0, .null, .null, .int 0, .null]))] := hD
  refine lv_dup hx hb d_law_11 rfl ?_
  have hPc := hP.sub (ws' := [(q_2, .inr (4, [.long 0, .null, .int 0, .null, .null, .int 0, .null]))]) [12] rfl
  have hDc := hD.sub (ws' := [(q_2, .inr (4, [.long 0, .null, .int 0, .null, .null, .int 0, .null]))]) [12] (by decide) rfl
  refine dd_mv (wc := [(q_2, .inr (4, [.long 0, .null, .int 0, .null, .null, .int 0, .null]))]) (wr := [((u1 0), .inr (0, [.ref (u1 1), .ref (u1 2), .ref (u1 8)])), ((u1 1), .inr (1, [.ref (u1 11), .int 0, .int 0])), ((u1 2), .inr (2, [.ref (u1 3), .ref (u1 4), .ref (u1 5), .ref (u1 6), .ref (u1 7)])), ((u1 3), .inl (k 0, 200, .inr (.inl dd_ss0.1))), ((u1 4), .inl (k 0, 200, .inr (.inl dd_ss0.2.1))), ((u1 5), .inl (k 0, 200, .inr (.inl dd_ss0.2.2.1))), ((u1 6), .inl (k 0, 200, .inr (.inl dd_ss0.2.2.2.1))), ((u1 7), .inl (k 1, 200, .inl dd_ss0.2.2.2.2)), ((u1 8), .inr (3, [.ref (u1 9), .ref (u1 10), .int 0])), ((u1 9), .inl (k 2, 120, .inl (fun _ => 0))), ((u1 10), .inl (k 2, 20, .inl (fun _ => 0))), ((u1 11), .inl (k 3, 5, .inr (.inr (.inr (.inr (fun i => some (ad i)))))))]) (va_runI (As := []) (rest := [.ref q_2]) ⟨hx, hb, hml, hown, htb⟩ (c_M_init l D k (fun _ => 0) H.size q_2) (cwI 0 htb (dd_gi tb_212) rfl rfl rfl (htb _ tb_7) (htb _ tb_210) (htb _ tb_211) rfl hd_M_init.2 ⟨Nat.le_of_ble_eq_true rfl, Nat.le_of_ble_eq_true rfl⟩) ⟨dd_PM.bl, dd_PM.of hPc hDc hK hN⟩ rfl rfl hl.1 rfl (lv_room (Nat.le_of_ble_eq_true rfl)) d_law_12 ⟨Nat.le_of_ble_eq_true rfl, Nat.le_of_ble_eq_true rfl⟩) hP hD hS hA [12] [0, 1, 2, 3, 4, 5, 6, 7, 8, 9, 10, 11] rfl rfl (by decide) (by decide) (fun u2 H locs hw2 hP hD hS => ?_)
  obtain ⟨m1, m2, m3, m4⟩ := u2
  have hP : va_P D dd_cl [((u1 0), .inr (0, [.ref (u1 1), .ref (u1 2), .ref (u1 8)])), ((u1 1), .inr (1, [.ref (u1 11), .int 0, .int 0])), ((u1 2), .inr (2, [.ref (u1 3), .ref (u1 4), .ref (u1 5), .ref (u1 6), .ref (u1 7)])), ((u1 3), .inl (k 0, 200, .inr (.inl dd_ss0.1))), ((u1 4), .inl (k 0, 200, .inr (.inl dd_ss0.2.1))), ((u1 5), .inl (k 0, 200, .inr (.inl dd_ss0.2.2.1))), ((u1 6), .inl (k 0, 200, .inr (.inl dd_ss0.2.2.2.1))), ((u1 7), .inl (k 1, 200, .inl dd_ss0.2.2.2.2)), ((u1 8), .inr (3, [.ref (u1 9), .ref (u1 10), .int 0])), ((u1 9), .inl (k 2, 120, .inl (fun _ => 0))), ((u1 10), .inl (k 2, 20, .inl (fun _ => 0))), ((u1 11), .inl (k 3, 5, .inr (.inr (.inr (.inr (fun i => some (ad i))))))), (q_2, .inr (4, [.long 0, .ref m1, .int 0, .ref m2, .ref m3, .int 0, .ref m4])), (m1, .inl (k 0, 200, .inr (.inl (fun _ => 0)))), (m2, .inl (k 1, 520, .inl (fun _ => 0))), (m3, .inl (k 0, 520, .inr (.inl (fun _ => 0)))), (m4, .inl (k 1, 120, .inl (fun _ => 0)))] H := hP
  have hD : va_D A [((u1 0), .inr (0, [.ref (u1 1), .ref (u1 2), .ref (u1 8)])), ((u1 1), .inr (1, [.ref (u1 11), .int 0, .int 0])), ((u1 2), .inr (2, [.ref (u1 3), .ref (u1 4), .ref (u1 5), .ref (u1 6), .ref (u1 7)])), ((u1 3), .inl (k 0, 200, .inr (.inl dd_ss0.1))), ((u1 4), .inl (k 0, 200, .inr (.inl dd_ss0.2.1))), ((u1 5), .inl (k 0, 200, .inr (.inl dd_ss0.2.2.1))), ((u1 6), .inl (k 0, 200, .inr (.inl dd_ss0.2.2.2.1))), ((u1 7), .inl (k 1, 200, .inl dd_ss0.2.2.2.2)), ((u1 8), .inr (3, [.ref (u1 9), .ref (u1 10), .int 0])), ((u1 9), .inl (k 2, 120, .inl (fun _ => 0))), ((u1 10), .inl (k 2, 20, .inl (fun _ => 0))), ((u1 11), .inl (k 3, 5, .inr (.inr (.inr (.inr (fun i => some (ad i))))))), (q_2, .inr (4, [.long 0, .ref m1, .int 0, .ref m2, .ref m3, .int 0, .ref m4])), (m1, .inl (k 0, 200, .inr (.inl (fun _ => 0)))), (m2, .inl (k 1, 520, .inl (fun _ => 0))), (m3, .inl (k 0, 520, .inr (.inl (fun _ => 0)))), (m4, .inl (k 1, 120, .inl (fun _ => 0)))] := hD
  refine lv_astore_n (lv' := [(2, .ref q_2), (1, .ref (u1 0)), (0, .ref b)]) hx hb d_law_15 rfl hl (by decide) rfl (fun ls hl => ?_)
  refine lv_iconst (v := 0) hx hb d_law_16 (by decide) ?_
  refine lv_istore_n (lv' := [(3, .int 0), (2, .ref q_2), (1, .ref (u1 0)), (0, .ref b)]) hx hb d_law_17 rfl hl (by decide) rfl (fun ls hl => ?_)
  obtain ⟨h9, eh9⟩ : ∃ h : Nat → Nat, h = (fun i => [u1 0, u1 1, u1 2, u1 3, u1 4, u1 5, u1 6, u1 7, u1 8, u1 9, u1 10, u1 11, q_2, m1, m2, m3, m4].getD i 0) := ⟨_, rfl⟩
  have hP : va_P D dd_cl [((h9 0), .inr (0, [.ref (h9 1), .ref (h9 2), .ref (h9 8)])), ((h9 1), .inr (1, [.ref (h9 11), .int 0, .int 0])), ((h9 2), .inr (2, [.ref (h9 3), .ref (h9 4), .ref (h9 5), .ref (h9 6), .ref (h9 7)])), ((h9 3), .inl (k 0, 200, .inr (.inl dd_ss0.1))), ((h9 4), .inl (k 0, 200, .inr (.inl dd_ss0.2.1))), ((h9 5), .inl (k 0, 200, .inr (.inl dd_ss0.2.2.1))), ((h9 6), .inl (k 0, 200, .inr (.inl dd_ss0.2.2.2.1))), ((h9 7), .inl (k 1, 200, .inl dd_ss0.2.2.2.2)), ((h9 8), .inr (3, [.ref (h9 9), .ref (h9 10), .int (nI 0)])), ((h9 9), .inl (k 2, 120, .inl (fun _ => 0))), ((h9 10), .inl (k 2, 20, .inl (fun _ => 0))), ((h9 11), .inl (k 3, 5, .inr (.inr (.inr (.inr (fun i => some (ad i))))))), ((h9 12), .inr (4, [.long 0, .ref (h9 13), .int (nI 0), .ref (h9 14), .ref (h9 15), .int (nI 0), .ref (h9 16)])), ((h9 13), .inl (k 0, 200, .inr (.inl (fun _ => 0)))), ((h9 14), .inl (k 1, 520, .inl (fun _ => 0))), ((h9 15), .inl (k 0, 520, .inr (.inl (fun _ => 0)))), ((h9 16), .inl (k 1, 120, .inl (fun _ => 0)))] H := by subst eh9; exact hP
  have hD : va_D A [((h9 0), .inr (0, [.ref (h9 1), .ref (h9 2), .ref (h9 8)])), ((h9 1), .inr (1, [.ref (h9 11), .int 0, .int 0])), ((h9 2), .inr (2, [.ref (h9 3), .ref (h9 4), .ref (h9 5), .ref (h9 6), .ref (h9 7)])), ((h9 3), .inl (k 0, 200, .inr (.inl dd_ss0.1))), ((h9 4), .inl (k 0, 200, .inr (.inl dd_ss0.2.1))), ((h9 5), .inl (k 0, 200, .inr (.inl dd_ss0.2.2.1))), ((h9 6), .inl (k 0, 200, .inr (.inl dd_ss0.2.2.2.1))), ((h9 7), .inl (k 1, 200, .inl dd_ss0.2.2.2.2)), ((h9 8), .inr (3, [.ref (h9 9), .ref (h9 10), .int (nI 0)])), ((h9 9), .inl (k 2, 120, .inl (fun _ => 0))), ((h9 10), .inl (k 2, 20, .inl (fun _ => 0))), ((h9 11), .inl (k 3, 5, .inr (.inr (.inr (.inr (fun i => some (ad i))))))), ((h9 12), .inr (4, [.long 0, .ref (h9 13), .int (nI 0), .ref (h9 14), .ref (h9 15), .int (nI 0), .ref (h9 16)])), ((h9 13), .inl (k 0, 200, .inr (.inl (fun _ => 0)))), ((h9 14), .inl (k 1, 520, .inl (fun _ => 0))), ((h9 15), .inl (k 0, 520, .inr (.inl (fun _ => 0)))), ((h9 16), .inl (k 1, 120, .inl (fun _ => 0)))] := by subst eh9; exact hD
  refine W.widen (k := 600000) (n := 7302250) (Nat.le_of_ble_eq_true rfl) (Nat.le_of_ble_eq_true rfl) ?_
  have hl : lv_has ls 4 [(3, .int (nI (4 * 0))), (2, .ref (h9 12)), (1, .ref (h9 0)), (0, .ref b)] := by subst eh9; exact lv_sub hl [0, 1, 2, 3] rfl
  exact law_loop hL C0 A hA hA2 D k ad h9 hK hN hE ls H locs hl hP hD hS
end
section
/-! the claim out of the walk (the skeleton's own end) -/
set_option maxHeartbeats 4000000 in
theorem lw_walk (l : Launch) (b : Addr) (xs : List Int32) : MetFree l x (headSpec (Jvm.Cond.code x code maxLocals ret :: tables_1) room_1) (lw_P b xs) (fun _ _ _ _ _ => True) lw_Q := by
  refine MetFree.of_bodyS (code := code) (maxLocals := maxLocals) (ret := ret) (by decide) ?_ ?_
  · intro args s m h hn
    obtain ⟨meth, c, h1, h2, h3, h4, h5, h6, -, -⟩ := Cond.code_spec hn (atoms_spec (ws := Jvm.Cond.code x code maxLocals ret :: tables_1) h _ List.mem_cons_self)
    exact ⟨meth, c, h1, h2, h3, h4, h5, h6⟩
  · intro p e s m args below meth c s₁ B hml0 hP _
    obtain ⟨rfl, hx, hbd, hgv⟩ := hP
    obtain ⟨scr, harrAt, hlist, hof, hsmall⟩ := hx
    obtain ⟨hcb, hkn, -, -⟩ := State.arrayAt?_spec harrAt
    have hown : s.vm.findClass R_law = some m.cls := findClass_of_methodNamed B.named
    have hts0 : ∀ c ∈ (Jvm.Cond.code x code maxLocals ret :: tables_1), c.before #[Value.ref b] s = true := atoms_spec (ws := Jvm.Cond.code x code maxLocals ret :: tables_1) B.pre
    have hts : ∀ w ∈ lw_tbl, w.before #[Value.ref b] s = true := k2_hts_sels lw_privs (fun w hw => hts0 w (List.mem_cons_of_mem _ hw)) lw_privs_ok
    have hml : c.maxLocals = 4 := B.maxLocals_eq (hts0 _ List.mem_cons_self)
    have X₀ : Stand p l e room_1 s m #[Value.ref b] below meth c s₁ [] 0 0 := Stand.of_body B
    have hh0 : s₁.heap = s.heap := by rw [B.state]; rfl
    have hsz : scr.slots.size = xs.length := by rw [← Array.length_toList, hlist, List.length_map]
    have hval : ∀ j : Nat, j < xs.length → scr.slots[j]? = some (.int (xs.getD j 0)) := fun j hj => by
      rw [← Array.getElem?_toList, hlist]
      simp [hj]
    have hbl : b < s.heap.size := (Array.getElem?_eq_some_iff.mp hcb).1
    have hX : va_X b xs.length (fun j => xs.getD j 0) s s.heap := ⟨scr, hcb, hof, hkn, hsz, hval⟩
    have K : W p l e room_1 s m #[Value.ref b] below meth c s₁.heap [] 0 0 (lw_Z below #[Value.ref b] s) (entryFrame m ([Value.ref b] : List Value).toArray 4) := by
      rw [hh0]
      exact whole_start l hbd ⟨B.exec, B.bytes, B.returns, hml, hown, hts, hX, hbl, B.notSynchronized, hgv⟩
    obtain ⟨t, a1, o, b1, b2, b3⟩ := K s₁ rfl X₀
    exact ⟨t, o, a1, b1, b2, b3⟩
theorem lw_pre_spec {args : Array Value} {s : State} (h : (Jvm.Cond.and given_1 narrow_1).before args s = true) (hr : rest_1_c.before args s = true) : ∃ (b : Addr) (xs : List Int32), lw_P b xs args s := by
  have hs := flat_of_before _ h
  have hq := flat_of_before _ hr
  have hc : (Cond.count 1).before args s = true := hs _ (by decide +kernel)
  have harr : (Cond.arrayOf (.arg 0) .int).before args s = true := hs _ (by decide +kernel)
  have hle : (Cond.le (.length (.arg 0)) (.int 2048)).before args s = true := hs _ (by decide +kernel)
  have hlen : (Cond.isInt (.length (.arg 0))).before args s = true := hq _ (by decide +kernel)
  have hall : (Cond.all (.arg 0) (.isInt (.elem (.arg 0) (.index 0)))).before args s = true := hq _ (by decide +kernel)
  obtain ⟨b, xs, hb, hx⟩ := State.ints_of_pre rfl harr hlen hall
  have hsm : xs.length < 2 ^ 31 := hx.choose_spec.2.2.2
  have hev : (Term.length (.arg 0)).eval args s none [] s = some (.int xs.length.toInt32) := hx.length_eval hb
  have hv := Cond.le_ints hev (show (Term.int 2048).eval args s none [] s = some (.int 2048) from rfl)
  have hd : xs.length.toInt32 ≤ 2048 := by
    simpa [Cond.before, Cond.holds, hv] using hle
  have hN : xs.length ≤ 2048 := (Int32.ofNat_le_ofNat hsm (by decide)).mp (show Int32.ofNat xs.length ≤ Int32.ofNat 2048 from hd)
  exact ⟨b, xs, Cond.one_arg hc (show args[0]? = some (.ref b) from hb), hx, hN, h⟩
theorem lw_comes (l : Launch) : Comes l x (Jvm.Cond.code x code maxLocals ret :: tables_1) room_1 (fun tb e args s => Calls_1 tb e args s ∧ rest_1 tb e args s ∧ Pre_1 tb e args s)
    (fun _ _ args s o t => lw_Q args s o t) := by
  intro p e ha hc hk s m args below hf hfit hheap happ hpre
  obtain ⟨b, xs, hP⟩ := lw_pre_spec hpre.2.2 hpre.2.1
  obtain ⟨k, o, h1, h2, h3, hQ⟩ := lw_walk l b xs p e ha hc hk s m args below hf ((Spec.applies_iff_loose hf).mp happ).1 hP trivial
  exact ⟨k, o, h1, h2, h3, hQ⟩
theorem lw_frame {s t : State} {o : Outcome} {args : Array Value} (h : Framed s o t [] 600000 7302250) :
    Framed s o t (fieldLocs frame_1_writes args s ++ arrayLocs frame_1_arrays args s ++ staticLocs frame_1_statics s) 600000 7302250 := h
theorem lw_limb (L : Cond) (hL : ∀ (args : Array Value) (s t : State), L.after args s (.returned (some (.int 1))) t = true) :
    ArmFor flags0 classFile x code maxLocals ret World_1 tables_1 room_1 Calls_1 rest_1 Pre_1
      (fun tb e a s o t => postC L tb e a s o t ∧ Framed s o t (fieldLocs frame_1_writes a s ++ arrayLocs frame_1_arrays a s ++ staticLocs frame_1_statics s) 600000 7302250) := by
  intro l _ _ _ p e ha hc hk s m args below hf hfit hheap happ hpre
  obtain ⟨k, o, h1, h2, h3, rfl, hF⟩ := lw_comes l p e ha hc hk s m args below hf hfit hheap happ hpre
  exact ⟨k, _, h1, h2, h3, hL args s _, lw_frame hF⟩
theorem i_vc : Claimed_1_1 ∧ Claimed_1_2 := ⟨lw_limb limb_1_1 (fun args s t => by simp [limb_1_1, Cond.after, Cond.holds, Cond.value]), lw_limb limb_1_2 (fun args s t => Cond.after_iff.mpr (by
  first | (rw [show limb_1_2 = Cond.eq .result (.int 1) from rfl, Cond.eq_ints (x := 1) (y := 1) rfl rfl]; simp; done) | (simp [limb_1_2, Cond.value, Term.eval]; done)))⟩
end
