section
-- ===== PART A: goes FIRST, ahead of the names: the tables' words, and 'selects' of the private methods out of them =====
/-- a private method of a class that the tables say can be made, by its rows of tables_1 -/
def lw_okq (q : MethodName × Nat) : Prop := (q.1.cls ≠ "java/lang/invoke/MethodHandle" ∧ q.1.cls ≠ "java/lang/invoke/VarHandle") ∧ Cond.instantiable q.1.cls q.2 ∈ tables_1 ∧ Cond.privateMethod q.1 ∈ tables_1 ∧ Cond.instanceMethod q.1 ∈ tables_1
theorem lw_p0 : lw_okq (⟨"TimerGates", "quiet", "()I"⟩, 5) := ⟨⟨by decide +kernel, by decide +kernel⟩, List.mem_of_getElem? (i := 9) (by decide +kernel), List.mem_of_getElem? (i := 149) (by decide +kernel), List.mem_of_getElem? (i := 150) (by decide +kernel)⟩
theorem lw_p1 : lw_okq (⟨"TimerGates", "asks", "(LTimerGates$Gate;)Z"⟩, 5) := ⟨⟨by decide +kernel, by decide +kernel⟩, List.mem_of_getElem? (i := 9) (by decide +kernel), List.mem_of_getElem? (i := 157) (by decide +kernel), List.mem_of_getElem? (i := 158) (by decide +kernel)⟩
theorem lw_p2 : lw_okq (⟨"TimerGates", "pass", "(I)I"⟩, 5) := ⟨⟨by decide +kernel, by decide +kernel⟩, List.mem_of_getElem? (i := 9) (by decide +kernel), List.mem_of_getElem? (i := 161) (by decide +kernel), List.mem_of_getElem? (i := 162) (by decide +kernel)⟩
theorem lw_p3 : lw_okq (⟨"TimerGates", "serve", "(LTimerGates$Gate;I)I"⟩, 5) := ⟨⟨by decide +kernel, by decide +kernel⟩, List.mem_of_getElem? (i := 9) (by decide +kernel), List.mem_of_getElem? (i := 169) (by decide +kernel), List.mem_of_getElem? (i := 170) (by decide +kernel)⟩
theorem lw_p4 : lw_okq (⟨"TimerGatesModel", "tick", "()V"⟩, 18) := ⟨⟨by decide +kernel, by decide +kernel⟩, List.mem_of_getElem? (i := 205) (by decide +kernel), List.mem_of_getElem? (i := 290) (by decide +kernel), List.mem_of_getElem? (i := 291) (by decide +kernel)⟩
theorem lw_p5 : lw_okq (⟨"TimerGatesModel", "event", "(I)Z"⟩, 18) := ⟨⟨by decide +kernel, by decide +kernel⟩, List.mem_of_getElem? (i := 205) (by decide +kernel), List.mem_of_getElem? (i := 294) (by decide +kernel), List.mem_of_getElem? (i := 295) (by decide +kernel)⟩
theorem lw_p6 : lw_okq (⟨"TimerGatesModel", "serve", "(I)V"⟩, 18) := ⟨⟨by decide +kernel, by decide +kernel⟩, List.mem_of_getElem? (i := 205) (by decide +kernel), List.mem_of_getElem? (i := 298) (by decide +kernel), List.mem_of_getElem? (i := 299) (by decide +kernel)⟩
theorem lw_p7 : lw_okq (⟨"TimerGatesModel", "asks", "(I)Z"⟩, 18) := ⟨⟨by decide +kernel, by decide +kernel⟩, List.mem_of_getElem? (i := 205) (by decide +kernel), List.mem_of_getElem? (i := 302) (by decide +kernel), List.mem_of_getElem? (i := 303) (by decide +kernel)⟩
def lw_privs_1 : List (MethodName × Nat) := [(⟨"TimerGates", "quiet", "()I"⟩, 5), (⟨"TimerGates", "asks", "(LTimerGates$Gate;)Z"⟩, 5), (⟨"TimerGates", "pass", "(I)I"⟩, 5), (⟨"TimerGates", "serve", "(LTimerGates$Gate;I)I"⟩, 5), (⟨"TimerGatesModel", "tick", "()V"⟩, 18), (⟨"TimerGatesModel", "event", "(I)Z"⟩, 18), (⟨"TimerGatesModel", "serve", "(I)V"⟩, 18), (⟨"TimerGatesModel", "asks", "(I)Z"⟩, 18)]
theorem lw_r1 : ∀ q ∈ lw_privs_1, lw_okq q := List.forall_mem_cons.mpr ⟨lw_p0, List.forall_mem_cons.mpr ⟨lw_p1, List.forall_mem_cons.mpr ⟨lw_p2, List.forall_mem_cons.mpr ⟨lw_p3, List.forall_mem_cons.mpr ⟨lw_p4, List.forall_mem_cons.mpr ⟨lw_p5, List.forall_mem_cons.mpr ⟨lw_p6, List.forall_mem_cons.mpr ⟨lw_p7, fun _ h => absurd h List.not_mem_nil⟩⟩⟩⟩⟩⟩⟩⟩
def lw_privs : List (MethodName × Nat) := lw_privs_1
def lw_tbl : List Cond := k2_sels lw_privs ++ tables_1
theorem lw_privs_ok : ∀ q ∈ lw_privs, lw_okq q := lw_r1
-- ===== names =====
def gtbl : List Cond := lw_tbl.filter goodWord
def R_law : String := "TimerGatesLaw"
def R_Mth : String := "java/lang/Math"
def R_Itg : String := "java/lang/Integer"
def R_Tm : String := "TimerGates$Timer"
def F_Tm : u_T := fun k => match k with
  | 0 => ("TimerGates$Timer", "period", "I", false)
  | 1 => ("TimerGates$Timer", "count", "I", false)
  | 2 => ("TimerGates$Timer", "source", "I", false)
  | 3 => ("TimerGates$Timer", "runs", "Z", false)
  | 4 => ("TimerGates$Timer", "once", "Z", false)
  | 5 => ("TimerGates$Timer", "ended", "I", false)
  | 6 => ("TimerGates$Timer", "missed", "I", false)
  | 7 => ("TimerGates$Timer", "served", "I", false)
  | _ => ("TimerGates$Timer", "cleared", "I", false)
def t_Tm : Nat → FieldType := fun k => match k with
  | 0 => .int
  | 1 => .int
  | 2 => .int
  | 3 => .boolean
  | 4 => .boolean
  | 5 => .int
  | 6 => .int
  | 7 => .int
  | _ => .int
theorem n_Tm : ∀ a, a < 9 → ∀ b, b < 9 → a ≠ b → (F_Tm a).2.1 ≠ (F_Tm b).2.1 := by decide +kernel
theorem t_Tm_ok : ∀ k, k < 9 → parseFieldDescriptor (F_Tm k).2.2.1 = some (t_Tm k) := by decide +kernel
theorem i_Tm : ∀ w ∈ u_ws R_Tm F_Tm 9, w ∈ gtbl := by decide +kernel
def R_Gt : String := "TimerGates$Gate"
def F_Gt : u_T := fun k => match k with
  | 0 => ("TimerGates$Gate", "mask", "I", false)
  | 1 => ("TimerGates$Gate", "delay", "I", false)
  | 2 => ("TimerGates$Gate", "left", "I", false)
  | 3 => ("TimerGates$Gate", "served", "I", false)
  | 4 => ("TimerGates$Gate", "idle", "I", false)
  | _ => ("TimerGates$Gate", "latest", "I", false)
def t_Gt : Nat → FieldType := fun k => match k with
  | 0 => .int
  | 1 => .int
  | 2 => .int
  | 3 => .int
  | 4 => .int
  | _ => .int
theorem n_Gt : ∀ a, a < 6 → ∀ b, b < 6 → a ≠ b → (F_Gt a).2.1 ≠ (F_Gt b).2.1 := by decide +kernel
theorem t_Gt_ok : ∀ k, k < 6 → parseFieldDescriptor (F_Gt k).2.2.1 = some (t_Gt k) := by decide +kernel
theorem i_Gt : ∀ w ∈ u_ws R_Gt F_Gt 6, w ∈ gtbl := by decide +kernel
def R_Bk : String := "TimerGates$Book"
def F_Bk : u_T := fun k => match k with
  | 0 => ("TimerGates$Book", "bits", "[I", true)
  | 1 => ("TimerGates$Book", "gates", "[I", true)
  | 2 => ("TimerGates$Book", "moments", "[I", true)
  | _ => ("TimerGates$Book", "many", "I", false)
def t_Bk : Nat → FieldType := fun k => match k with
  | 0 => .array .int
  | 1 => .array .int
  | 2 => .array .int
  | _ => .int
theorem n_Bk : ∀ a, a < 4 → ∀ b, b < 4 → a ≠ b → (F_Bk a).2.1 ≠ (F_Bk b).2.1 := by decide +kernel
theorem t_Bk_ok : ∀ k, k < 4 → parseFieldDescriptor (F_Bk k).2.2.1 = some (t_Bk k) := by decide +kernel
theorem i_Bk : ∀ w ∈ u_ws R_Bk F_Bk 4, w ∈ gtbl := by decide +kernel
def R_TG : String := "TimerGates"
def F_TG : u_T := fun k => match k with
  | 0 => ("TimerGates", "timers", "[LTimerGates$Timer;", true)
  | 1 => ("TimerGates", "gates", "[LTimerGates$Gate;", true)
  | 2 => ("TimerGates", "book", "LTimerGates$Book;", true)
  | 3 => ("TimerGates", "status", "I", false)
  | _ => ("TimerGates", "now", "I", false)
def t_TG : Nat → FieldType := fun k => match k with
  | 0 => .array (.object "TimerGates$Timer")
  | 1 => .array (.object "TimerGates$Gate")
  | 2 => .object "TimerGates$Book"
  | 3 => .int
  | _ => .int
theorem n_TG : ∀ a, a < 5 → ∀ b, b < 5 → a ≠ b → (F_TG a).2.1 ≠ (F_TG b).2.1 := by decide +kernel
theorem t_TG_ok : ∀ k, k < 5 → parseFieldDescriptor (F_TG k).2.2.1 = some (t_TG k) := by decide +kernel
theorem i_TG : ∀ w ∈ u_ws R_TG F_TG 5, w ∈ gtbl := by decide +kernel
def R_Md : String := "TimerGatesModel"
def F_Md : u_T := fun k => match k with
  | 0 => ("TimerGatesModel", "thrown", "I", false)
  | 1 => ("TimerGatesModel", "now", "I", false)
  | 2 => ("TimerGatesModel", "status", "I", false)
  | 3 => ("TimerGatesModel", "served", "I", false)
  | 4 => ("TimerGatesModel", "period", "[I", true)
  | 5 => ("TimerGatesModel", "count", "[I", true)
  | 6 => ("TimerGatesModel", "source", "[I", true)
  | 7 => ("TimerGatesModel", "once", "[Z", true)
  | 8 => ("TimerGatesModel", "runs", "[Z", true)
  | 9 => ("TimerGatesModel", "often", "[I", true)
  | 10 => ("TimerGatesModel", "mask", "[I", true)
  | 11 => ("TimerGatesModel", "delay", "[I", true)
  | 12 => ("TimerGatesModel", "waits", "[I", true)
  | 13 => ("TimerGatesModel", "done", "[Z", true)
  | 14 => ("TimerGatesModel", "servedBy", "[I", true)
  | 15 => ("TimerGatesModel", "idle", "[I", true)
  | 16 => ("TimerGatesModel", "latest", "[I", true)
  | _ => ("TimerGatesModel", "row", "[I", true)
def t_Md : Nat → FieldType := fun k => match k with
  | 0 => .int
  | 1 => .int
  | 2 => .int
  | 3 => .int
  | 4 => .array .int
  | 5 => .array .int
  | 6 => .array .int
  | 7 => .array .boolean
  | 8 => .array .boolean
  | 9 => .array .int
  | 10 => .array .int
  | 11 => .array .int
  | 12 => .array .int
  | 13 => .array .boolean
  | 14 => .array .int
  | 15 => .array .int
  | 16 => .array .int
  | _ => .array .int
theorem n_Md : ∀ a, a < 18 → ∀ b, b < 18 → a ≠ b → (F_Md a).2.1 ≠ (F_Md b).2.1 := by decide +kernel
theorem t_Md_ok : ∀ k, k < 18 → parseFieldDescriptor (F_Md k).2.2.1 = some (t_Md k) := by decide +kernel
theorem i_Md : ∀ w ∈ u_ws R_Md F_Md 18, w ∈ gtbl := by decide +kernel
abbrev classes : List vw_C := [(R_Tm, F_Tm, 9), (R_Gt, F_Gt, 6), (R_Bk, F_Bk, 4), (R_TG, F_TG, 5), (R_Md, F_Md, 18)]
abbrev b_TG_init : ByteArray := prog_1_method_1_code
def y_TG_init : MethodName := ⟨R_TG, "<init>", "()V"⟩
abbrev b_Bk_init : ByteArray := prog_2_method_1_code
def y_Bk_init : MethodName := ⟨R_Bk, "<init>", "()V"⟩
abbrev b_Tm_init : ByteArray := prog_4_method_1_code
def y_Tm_init : MethodName := ⟨R_Tm, "<init>", "()V"⟩
abbrev b_Gt_init : ByteArray := prog_3_method_1_code
def y_Gt_init : MethodName := ⟨R_Gt, "<init>", "()V"⟩
abbrev b_TG_set : ByteArray := prog_1_method_4_code
def y_TG_set : MethodName := ⟨R_TG, "set", "(IIIZ)Z"⟩
abbrev b_TG_isTimer : ByteArray := prog_1_method_2_code
def y_TG_isTimer : MethodName := ⟨R_TG, "isTimer", "(I)Z"⟩
abbrev b_TG_turn : ByteArray := prog_1_method_5_code
def y_TG_turn : MethodName := ⟨R_TG, "turn", "(IZ)Z"⟩
abbrev b_TG_gate : ByteArray := prog_1_method_6_code
def y_TG_gate : MethodName := ⟨R_TG, "gate", "(III)Z"⟩
abbrev b_TG_isGate : ByteArray := prog_1_method_3_code
def y_TG_isGate : MethodName := ⟨R_TG, "isGate", "(I)Z"⟩
abbrev b_TG_clear : ByteArray := prog_1_method_7_code
def y_TG_clear : MethodName := ⟨R_TG, "clear", "(I)I"⟩
abbrev b_TG_advance : ByteArray := prog_1_method_12_code
def y_TG_advance : MethodName := ⟨R_TG, "advance", "(I)I"⟩
abbrev b_TG_quiet : ByteArray := prog_1_method_9_code
def y_TG_quiet : MethodName := ⟨R_TG, "quiet", "()I"⟩
abbrev b_Mth_min : ByteArray := prog_8_method_69_code
def y_Mth_min : MethodName := ⟨R_Mth, "min", "(II)I"⟩
abbrev b_TG_asks : ByteArray := prog_1_method_8_code
def y_TG_asks : MethodName := ⟨R_TG, "asks", "(LTimerGates$Gate;)Z"⟩
abbrev b_TG_pass : ByteArray := prog_1_method_10_code
def y_TG_pass : MethodName := ⟨R_TG, "pass", "(I)I"⟩
abbrev b_Tm_comes : ByteArray := prog_4_method_2_code
def y_Tm_comes : MethodName := ⟨R_Tm, "comes", "(I)Z"⟩
abbrev b_TG_serve : ByteArray := prog_1_method_11_code
def y_TG_serve : MethodName := ⟨R_TG, "serve", "(LTimerGates$Gate;I)I"⟩
abbrev b_Itg_ntz : ByteArray := prog_7_method_48_code
def y_Itg_ntz : MethodName := ⟨R_Itg, "numberOfTrailingZeros", "(I)I"⟩
abbrev b_Bk_add : ByteArray := prog_2_method_2_code
def y_Bk_add : MethodName := ⟨R_Bk, "add", "(III)V"⟩
abbrev b_TG_next : ByteArray := prog_1_method_13_code
def y_TG_next : MethodName := ⟨R_TG, "next", "(I)I"⟩
abbrev b_TG_timer : ByteArray := prog_1_method_14_code
def y_TG_timer : MethodName := ⟨R_TG, "timer", "(II)I"⟩
abbrev b_TG_gateOf : ByteArray := prog_1_method_15_code
def y_TG_gateOf : MethodName := ⟨R_TG, "gateOf", "(II)I"⟩
abbrev b_TG_look : ByteArray := prog_1_method_16_code
def y_TG_look : MethodName := ⟨R_TG, "look", "(I)I"⟩
abbrev b_TG_served : ByteArray := prog_1_method_17_code
def y_TG_served : MethodName := ⟨R_TG, "served", "(II)I"⟩
abbrev b_Bk_get : ByteArray := prog_2_method_3_code
def y_Bk_get : MethodName := ⟨R_Bk, "get", "(II)I"⟩
abbrev b_Md_init : ByteArray := prog_6_method_1_code
def y_Md_init : MethodName := ⟨R_Md, "<init>", "()V"⟩
abbrev b_Md_set : ByteArray := prog_6_method_4_code
def y_Md_set : MethodName := ⟨R_Md, "set", "(IIIZ)Z"⟩
abbrev b_Md_isIn : ByteArray := prog_6_method_3_code
def y_Md_isIn : MethodName := ⟨R_Md, "isIn", "(III)Z"⟩
abbrev b_Md_turn : ByteArray := prog_6_method_5_code
def y_Md_turn : MethodName := ⟨R_Md, "turn", "(IZ)Z"⟩
abbrev b_Md_gate : ByteArray := prog_6_method_6_code
def y_Md_gate : MethodName := ⟨R_Md, "gate", "(III)Z"⟩
abbrev b_Md_clear : ByteArray := prog_6_method_7_code
def y_Md_clear : MethodName := ⟨R_Md, "clear", "(I)I"⟩
abbrev b_Md_advance : ByteArray := prog_6_method_12_code
def y_Md_advance : MethodName := ⟨R_Md, "advance", "(I)I"⟩
abbrev b_Md_tick : ByteArray := prog_6_method_11_code
def y_Md_tick : MethodName := ⟨R_Md, "tick", "()V"⟩
abbrev b_Md_event : ByteArray := prog_6_method_8_code
def y_Md_event : MethodName := ⟨R_Md, "event", "(I)Z"⟩
abbrev b_Md_serve : ByteArray := prog_6_method_10_code
def y_Md_serve : MethodName := ⟨R_Md, "serve", "(I)V"⟩
abbrev b_Md_asks : ByteArray := prog_6_method_9_code
def y_Md_asks : MethodName := ⟨R_Md, "asks", "(I)Z"⟩
abbrev b_Md_next : ByteArray := prog_6_method_13_code
def y_Md_next : MethodName := ⟨R_Md, "next", "(I)I"⟩
abbrev b_Md_timer : ByteArray := prog_6_method_14_code
def y_Md_timer : MethodName := ⟨R_Md, "timer", "(II)I"⟩
abbrev b_Md_gateOf : ByteArray := prog_6_method_15_code
def y_Md_gateOf : MethodName := ⟨R_Md, "gateOf", "(II)I"⟩
abbrev b_Md_look : ByteArray := prog_6_method_16_code
def y_Md_look : MethodName := ⟨R_Md, "look", "(I)I"⟩
abbrev b_Md_served : ByteArray := prog_6_method_17_code
def y_Md_served : MethodName := ⟨R_Md, "served", "(II)I"⟩
theorem ini_law : (Cond.initialized "TimerGatesLaw" : Cond) ∈ gtbl := List.mem_filter.mpr ⟨List.mem_of_getElem? (i := 8) (by decide +kernel), by decide +kernel⟩
theorem ini_TG : (Cond.initialized "TimerGates" : Cond) ∈ gtbl := List.mem_filter.mpr ⟨List.mem_of_getElem? (i := 9) (by decide +kernel), by decide +kernel⟩
theorem ini_Bk : (Cond.initialized "TimerGates$Book" : Cond) ∈ gtbl := List.mem_filter.mpr ⟨List.mem_of_getElem? (i := 10) (by decide +kernel), by decide +kernel⟩
theorem ini_Tm : (Cond.initialized "TimerGates$Timer" : Cond) ∈ gtbl := List.mem_filter.mpr ⟨List.mem_of_getElem? (i := 11) (by decide +kernel), by decide +kernel⟩
theorem ini_Gt : (Cond.initialized "TimerGates$Gate" : Cond) ∈ gtbl := List.mem_filter.mpr ⟨List.mem_of_getElem? (i := 12) (by decide +kernel), by decide +kernel⟩
theorem ini_Md : (Cond.initialized "TimerGatesModel" : Cond) ∈ gtbl := List.mem_filter.mpr ⟨List.mem_of_getElem? (i := 13) (by decide +kernel), by decide +kernel⟩
theorem ini_Mth : (Cond.initialized "java/lang/Math" : Cond) ∈ gtbl := List.mem_filter.mpr ⟨List.mem_of_getElem? (i := 14) (by decide +kernel), by decide +kernel⟩
theorem ini_Itg : (Cond.initialized "java/lang/Integer" : Cond) ∈ gtbl := List.mem_filter.mpr ⟨List.mem_of_getElem? (i := 15) (by decide +kernel), by decide +kernel⟩
theorem cl_law_7 : (Cond.classLink "TimerGatesLaw" 7 "TimerGates" : Cond) ∈ gtbl := List.mem_filter.mpr ⟨List.mem_of_getElem? (i := 16) (by decide +kernel), by decide +kernel⟩
theorem inst_TG : (Cond.instantiable "TimerGates" 5 : Cond) ∈ gtbl := List.mem_filter.mpr ⟨List.mem_of_getElem? (i := 17) (by decide +kernel), by decide +kernel⟩
theorem ml_law_9 : (Cond.methodLink "TimerGatesLaw" 9 y_TG_init : Cond) ∈ gtbl := List.mem_filter.mpr ⟨List.mem_of_getElem? (i := 18) (by decide +kernel), by decide +kernel⟩
theorem im_TG_init : (Cond.instanceMethod y_TG_init : Cond) ∈ gtbl := List.mem_filter.mpr ⟨List.mem_of_getElem? (i := 19) (by decide +kernel), by decide +kernel⟩
theorem cd_TG_init : (Cond.code y_TG_init b_TG_init 2 none : Cond) ∈ gtbl := List.mem_filter.mpr ⟨List.mem_of_getElem? (i := 20) (by decide +kernel), by decide +kernel⟩
theorem ml_TG_1 : (Cond.methodLink "TimerGates" 1 objectInit : Cond) ∈ gtbl := List.mem_filter.mpr ⟨List.mem_of_getElem? (i := 21) (by decide +kernel), by decide +kernel⟩
theorem im_Obj_init : (Cond.instanceMethod objectInit : Cond) ∈ gtbl := List.mem_filter.mpr ⟨List.mem_of_getElem? (i := 22) (by decide +kernel), by decide +kernel⟩
theorem cd_Obj_init : (Cond.code objectInit ⟨#[0xb1]⟩ 1 none : Cond) ∈ gtbl := List.mem_filter.mpr ⟨List.mem_of_getElem? (i := 23) (by decide +kernel), by decide +kernel⟩
theorem cl_TG_9 : (Cond.classLink "TimerGates" 9 "TimerGates$Timer" : Cond) ∈ gtbl := List.mem_filter.mpr ⟨List.mem_of_getElem? (i := 24) (by decide +kernel), by decide +kernel⟩
theorem cl_TG_15 : (Cond.classLink "TimerGates" 15 "TimerGates$Gate" : Cond) ∈ gtbl := List.mem_filter.mpr ⟨List.mem_of_getElem? (i := 26) (by decide +kernel), by decide +kernel⟩
theorem cl_TG_21 : (Cond.classLink "TimerGates" 21 "TimerGates$Book" : Cond) ∈ gtbl := List.mem_filter.mpr ⟨List.mem_of_getElem? (i := 28) (by decide +kernel), by decide +kernel⟩
theorem inst_Bk : (Cond.instantiable "TimerGates$Book" 4 : Cond) ∈ gtbl := List.mem_filter.mpr ⟨List.mem_of_getElem? (i := 29) (by decide +kernel), by decide +kernel⟩
theorem im_Bk_init : (Cond.instanceMethod y_Bk_init : Cond) ∈ gtbl := List.mem_filter.mpr ⟨List.mem_of_getElem? (i := 31) (by decide +kernel), by decide +kernel⟩
theorem cd_Bk_init : (Cond.code y_Bk_init b_Bk_init 1 none : Cond) ∈ gtbl := List.mem_filter.mpr ⟨List.mem_of_getElem? (i := 32) (by decide +kernel), by decide +kernel⟩
theorem ml_Bk_3 : (Cond.methodLink "TimerGates$Book" 3 objectInit : Cond) ∈ gtbl := List.mem_filter.mpr ⟨List.mem_of_getElem? (i := 33) (by decide +kernel), by decide +kernel⟩
theorem fl_Bk_9 : (Cond.fieldLink "TimerGates$Book" 9 "TimerGates$Book" "bits" "[I" : Cond) ∈ gtbl := List.mem_filter.mpr ⟨List.mem_of_getElem? (i := 34) (by decide +kernel), by decide +kernel⟩
theorem fl_Bk_15 : (Cond.fieldLink "TimerGates$Book" 15 "TimerGates$Book" "gates" "[I" : Cond) ∈ gtbl := List.mem_filter.mpr ⟨List.mem_of_getElem? (i := 35) (by decide +kernel), by decide +kernel⟩
theorem fl_Bk_18 : (Cond.fieldLink "TimerGates$Book" 18 "TimerGates$Book" "moments" "[I" : Cond) ∈ gtbl := List.mem_filter.mpr ⟨List.mem_of_getElem? (i := 36) (by decide +kernel), by decide +kernel⟩
theorem fl_Bk_21 : (Cond.fieldLink "TimerGates$Book" 21 "TimerGates$Book" "many" "I" : Cond) ∈ gtbl := List.mem_filter.mpr ⟨List.mem_of_getElem? (i := 37) (by decide +kernel), by decide +kernel⟩
theorem acl_int : (Cond.arrayClass .int : Cond) ∈ gtbl := List.mem_filter.mpr ⟨List.mem_of_getElem? (i := 48) (by decide +kernel), by decide +kernel⟩
theorem inst_Tm : (Cond.instantiable "TimerGates$Timer" 9 : Cond) ∈ gtbl := List.mem_filter.mpr ⟨List.mem_of_getElem? (i := 49) (by decide +kernel), by decide +kernel⟩
theorem im_Tm_init : (Cond.instanceMethod y_Tm_init : Cond) ∈ gtbl := List.mem_filter.mpr ⟨List.mem_of_getElem? (i := 51) (by decide +kernel), by decide +kernel⟩
theorem cd_Tm_init : (Cond.code y_Tm_init b_Tm_init 1 none : Cond) ∈ gtbl := List.mem_filter.mpr ⟨List.mem_of_getElem? (i := 52) (by decide +kernel), by decide +kernel⟩
theorem ml_Tm_1 : (Cond.methodLink "TimerGates$Timer" 1 objectInit : Cond) ∈ gtbl := List.mem_filter.mpr ⟨List.mem_of_getElem? (i := 53) (by decide +kernel), by decide +kernel⟩
theorem fl_Tm_7 : (Cond.fieldLink "TimerGates$Timer" 7 "TimerGates$Timer" "period" "I" : Cond) ∈ gtbl := List.mem_filter.mpr ⟨List.mem_of_getElem? (i := 54) (by decide +kernel), by decide +kernel⟩
theorem fl_Tm_13 : (Cond.fieldLink "TimerGates$Timer" 13 "TimerGates$Timer" "count" "I" : Cond) ∈ gtbl := List.mem_filter.mpr ⟨List.mem_of_getElem? (i := 56) (by decide +kernel), by decide +kernel⟩
theorem fl_Tm_16 : (Cond.fieldLink "TimerGates$Timer" 16 "TimerGates$Timer" "runs" "Z" : Cond) ∈ gtbl := List.mem_filter.mpr ⟨List.mem_of_getElem? (i := 59) (by decide +kernel), by decide +kernel⟩
theorem fl_Tm_20 : (Cond.fieldLink "TimerGates$Timer" 20 "TimerGates$Timer" "once" "Z" : Cond) ∈ gtbl := List.mem_filter.mpr ⟨List.mem_of_getElem? (i := 61) (by decide +kernel), by decide +kernel⟩
theorem fl_Tm_23 : (Cond.fieldLink "TimerGates$Timer" 23 "TimerGates$Timer" "ended" "I" : Cond) ∈ gtbl := List.mem_filter.mpr ⟨List.mem_of_getElem? (i := 63) (by decide +kernel), by decide +kernel⟩
theorem inst_Gt : (Cond.instantiable "TimerGates$Gate" 6 : Cond) ∈ gtbl := List.mem_filter.mpr ⟨List.mem_of_getElem? (i := 87) (by decide +kernel), by decide +kernel⟩
theorem im_Gt_init : (Cond.instanceMethod y_Gt_init : Cond) ∈ gtbl := List.mem_filter.mpr ⟨List.mem_of_getElem? (i := 89) (by decide +kernel), by decide +kernel⟩
theorem cd_Gt_init : (Cond.code y_Gt_init b_Gt_init 1 none : Cond) ∈ gtbl := List.mem_filter.mpr ⟨List.mem_of_getElem? (i := 90) (by decide +kernel), by decide +kernel⟩
theorem ml_Gt_3 : (Cond.methodLink "TimerGates$Gate" 3 objectInit : Cond) ∈ gtbl := List.mem_filter.mpr ⟨List.mem_of_getElem? (i := 91) (by decide +kernel), by decide +kernel⟩
theorem fl_Gt_9 : (Cond.fieldLink "TimerGates$Gate" 9 "TimerGates$Gate" "delay" "I" : Cond) ∈ gtbl := List.mem_filter.mpr ⟨List.mem_of_getElem? (i := 93) (by decide +kernel), by decide +kernel⟩
theorem fl_Gt_15 : (Cond.fieldLink "TimerGates$Gate" 15 "TimerGates$Gate" "latest" "I" : Cond) ∈ gtbl := List.mem_filter.mpr ⟨List.mem_of_getElem? (i := 98) (by decide +kernel), by decide +kernel⟩
theorem fl_TG_11 : (Cond.fieldLink "TimerGates" 11 "TimerGates" "timers" "[LTimerGates$Timer;" : Cond) ∈ gtbl := List.mem_filter.mpr ⟨List.mem_of_getElem? (i := 113) (by decide +kernel), by decide +kernel⟩
theorem fl_TG_17 : (Cond.fieldLink "TimerGates" 17 "TimerGates" "gates" "[LTimerGates$Gate;" : Cond) ∈ gtbl := List.mem_filter.mpr ⟨List.mem_of_getElem? (i := 114) (by decide +kernel), by decide +kernel⟩
theorem fl_TG_24 : (Cond.fieldLink "TimerGates" 24 "TimerGates" "book" "LTimerGates$Book;" : Cond) ∈ gtbl := List.mem_filter.mpr ⟨List.mem_of_getElem? (i := 115) (by decide +kernel), by decide +kernel⟩
theorem fl_TG_61 : (Cond.fieldLink "TimerGates" 61 "TimerGates" "status" "I" : Cond) ∈ gtbl := List.mem_filter.mpr ⟨List.mem_of_getElem? (i := 116) (by decide +kernel), by decide +kernel⟩
theorem fl_TG_83 : (Cond.fieldLink "TimerGates" 83 "TimerGates" "now" "I" : Cond) ∈ gtbl := List.mem_filter.mpr ⟨List.mem_of_getElem? (i := 117) (by decide +kernel), by decide +kernel⟩
theorem ml_law_13 : (Cond.methodLink "TimerGatesLaw" 13 y_TG_set : Cond) ∈ gtbl := List.mem_filter.mpr ⟨List.mem_of_getElem? (i := 129) (by decide +kernel), by decide +kernel⟩
theorem im_TG_set : (Cond.instanceMethod y_TG_set : Cond) ∈ gtbl := List.mem_filter.mpr ⟨List.mem_of_getElem? (i := 130) (by decide +kernel), by decide +kernel⟩
theorem sel_TG_set : (Cond.selects "TimerGates" y_TG_set y_TG_set : Cond) ∈ gtbl := List.mem_filter.mpr ⟨List.mem_of_getElem? (i := 131) (by decide +kernel), by decide +kernel⟩
theorem cd_TG_set : (Cond.code y_TG_set b_TG_set 6 (some .boolean) : Cond) ∈ gtbl := List.mem_filter.mpr ⟨List.mem_of_getElem? (i := 132) (by decide +kernel), by decide +kernel⟩
theorem ml_TG_30 : (Cond.methodLink "TimerGates" 30 y_TG_isTimer : Cond) ∈ gtbl := List.mem_filter.mpr ⟨List.mem_of_getElem? (i := 133) (by decide +kernel), by decide +kernel⟩
theorem sta_TG_isTimer : (Cond.static y_TG_isTimer : Cond) ∈ gtbl := List.mem_filter.mpr ⟨List.mem_of_getElem? (i := 134) (by decide +kernel), by decide +kernel⟩
theorem cd_TG_isTimer : (Cond.code y_TG_isTimer b_TG_isTimer 1 (some .boolean) : Cond) ∈ gtbl := List.mem_filter.mpr ⟨List.mem_of_getElem? (i := 135) (by decide +kernel), by decide +kernel⟩
theorem cst_TG_34 : (Cond.constant "TimerGates" 34 65535 : Cond) ∈ gtbl := List.mem_filter.mpr ⟨List.mem_of_getElem? (i := 136) (by decide +kernel), by decide +kernel⟩
theorem ml_law_18 : (Cond.methodLink "TimerGatesLaw" 18 y_TG_turn : Cond) ∈ gtbl := List.mem_filter.mpr ⟨List.mem_of_getElem? (i := 137) (by decide +kernel), by decide +kernel⟩
theorem im_TG_turn : (Cond.instanceMethod y_TG_turn : Cond) ∈ gtbl := List.mem_filter.mpr ⟨List.mem_of_getElem? (i := 138) (by decide +kernel), by decide +kernel⟩
theorem sel_TG_turn : (Cond.selects "TimerGates" y_TG_turn y_TG_turn : Cond) ∈ gtbl := List.mem_filter.mpr ⟨List.mem_of_getElem? (i := 139) (by decide +kernel), by decide +kernel⟩
theorem cd_TG_turn : (Cond.code y_TG_turn b_TG_turn 3 (some .boolean) : Cond) ∈ gtbl := List.mem_filter.mpr ⟨List.mem_of_getElem? (i := 140) (by decide +kernel), by decide +kernel⟩
theorem ml_law_23 : (Cond.methodLink "TimerGatesLaw" 23 y_TG_gate : Cond) ∈ gtbl := List.mem_filter.mpr ⟨List.mem_of_getElem? (i := 141) (by decide +kernel), by decide +kernel⟩
theorem im_TG_gate : (Cond.instanceMethod y_TG_gate : Cond) ∈ gtbl := List.mem_filter.mpr ⟨List.mem_of_getElem? (i := 142) (by decide +kernel), by decide +kernel⟩
theorem sel_TG_gate : (Cond.selects "TimerGates" y_TG_gate y_TG_gate : Cond) ∈ gtbl := List.mem_filter.mpr ⟨List.mem_of_getElem? (i := 143) (by decide +kernel), by decide +kernel⟩
theorem cd_TG_gate : (Cond.code y_TG_gate b_TG_gate 4 (some .boolean) : Cond) ∈ gtbl := List.mem_filter.mpr ⟨List.mem_of_getElem? (i := 144) (by decide +kernel), by decide +kernel⟩
theorem ml_TG_52 : (Cond.methodLink "TimerGates" 52 y_TG_isGate : Cond) ∈ gtbl := List.mem_filter.mpr ⟨List.mem_of_getElem? (i := 145) (by decide +kernel), by decide +kernel⟩
theorem sta_TG_isGate : (Cond.static y_TG_isGate : Cond) ∈ gtbl := List.mem_filter.mpr ⟨List.mem_of_getElem? (i := 146) (by decide +kernel), by decide +kernel⟩
theorem cd_TG_isGate : (Cond.code y_TG_isGate b_TG_isGate 1 (some .boolean) : Cond) ∈ gtbl := List.mem_filter.mpr ⟨List.mem_of_getElem? (i := 147) (by decide +kernel), by decide +kernel⟩
theorem ml_law_28 : (Cond.methodLink "TimerGatesLaw" 28 y_TG_clear : Cond) ∈ gtbl := List.mem_filter.mpr ⟨List.mem_of_getElem? (i := 148) (by decide +kernel), by decide +kernel⟩
theorem im_TG_clear : (Cond.instanceMethod y_TG_clear : Cond) ∈ gtbl := List.mem_filter.mpr ⟨List.mem_of_getElem? (i := 149) (by decide +kernel), by decide +kernel⟩
theorem sel_TG_clear : (Cond.selects "TimerGates" y_TG_clear y_TG_clear : Cond) ∈ gtbl := List.mem_filter.mpr ⟨List.mem_of_getElem? (i := 150) (by decide +kernel), by decide +kernel⟩
theorem cd_TG_clear : (Cond.code y_TG_clear b_TG_clear 4 (some .int) : Cond) ∈ gtbl := List.mem_filter.mpr ⟨List.mem_of_getElem? (i := 151) (by decide +kernel), by decide +kernel⟩
theorem ml_law_33 : (Cond.methodLink "TimerGatesLaw" 33 y_TG_advance : Cond) ∈ gtbl := List.mem_filter.mpr ⟨List.mem_of_getElem? (i := 152) (by decide +kernel), by decide +kernel⟩
theorem im_TG_advance : (Cond.instanceMethod y_TG_advance : Cond) ∈ gtbl := List.mem_filter.mpr ⟨List.mem_of_getElem? (i := 153) (by decide +kernel), by decide +kernel⟩
theorem sel_TG_advance : (Cond.selects "TimerGates" y_TG_advance y_TG_advance : Cond) ∈ gtbl := List.mem_filter.mpr ⟨List.mem_of_getElem? (i := 154) (by decide +kernel), by decide +kernel⟩
theorem cd_TG_advance : (Cond.code y_TG_advance b_TG_advance 5 (some .int) : Cond) ∈ gtbl := List.mem_filter.mpr ⟨List.mem_of_getElem? (i := 155) (by decide +kernel), by decide +kernel⟩
theorem ml_TG_114 : (Cond.methodLink "TimerGates" 114 y_TG_quiet : Cond) ∈ gtbl := List.mem_filter.mpr ⟨List.mem_of_getElem? (i := 156) (by decide +kernel), by decide +kernel⟩
theorem im_TG_quiet : (Cond.instanceMethod y_TG_quiet : Cond) ∈ gtbl := List.mem_filter.mpr ⟨List.mem_of_getElem? (i := 158) (by decide +kernel), by decide +kernel⟩
theorem cd_TG_quiet : (Cond.code y_TG_quiet b_TG_quiet 6 (some .int) : Cond) ∈ gtbl := List.mem_filter.mpr ⟨List.mem_of_getElem? (i := 159) (by decide +kernel), by decide +kernel⟩
theorem cst_TG_69 : (Cond.constant "TimerGates" 69 2147483647 : Cond) ∈ gtbl := List.mem_filter.mpr ⟨List.mem_of_getElem? (i := 160) (by decide +kernel), by decide +kernel⟩
theorem ml_TG_70 : (Cond.methodLink "TimerGates" 70 y_Mth_min : Cond) ∈ gtbl := List.mem_filter.mpr ⟨List.mem_of_getElem? (i := 161) (by decide +kernel), by decide +kernel⟩
theorem sta_Mth_min : (Cond.static y_Mth_min : Cond) ∈ gtbl := List.mem_filter.mpr ⟨List.mem_of_getElem? (i := 162) (by decide +kernel), by decide +kernel⟩
theorem cd_Mth_min : (Cond.code y_Mth_min b_Mth_min 2 (some .int) : Cond) ∈ gtbl := List.mem_filter.mpr ⟨List.mem_of_getElem? (i := 163) (by decide +kernel), by decide +kernel⟩
theorem ml_TG_79 : (Cond.methodLink "TimerGates" 79 y_TG_asks : Cond) ∈ gtbl := List.mem_filter.mpr ⟨List.mem_of_getElem? (i := 164) (by decide +kernel), by decide +kernel⟩
theorem im_TG_asks : (Cond.instanceMethod y_TG_asks : Cond) ∈ gtbl := List.mem_filter.mpr ⟨List.mem_of_getElem? (i := 166) (by decide +kernel), by decide +kernel⟩
theorem cd_TG_asks : (Cond.code y_TG_asks b_TG_asks 2 (some .boolean) : Cond) ∈ gtbl := List.mem_filter.mpr ⟨List.mem_of_getElem? (i := 167) (by decide +kernel), by decide +kernel⟩
theorem ml_TG_118 : (Cond.methodLink "TimerGates" 118 y_TG_pass : Cond) ∈ gtbl := List.mem_filter.mpr ⟨List.mem_of_getElem? (i := 168) (by decide +kernel), by decide +kernel⟩
theorem im_TG_pass : (Cond.instanceMethod y_TG_pass : Cond) ∈ gtbl := List.mem_filter.mpr ⟨List.mem_of_getElem? (i := 170) (by decide +kernel), by decide +kernel⟩
theorem cd_TG_pass : (Cond.code y_TG_pass b_TG_pass 8 (some .int) : Cond) ∈ gtbl := List.mem_filter.mpr ⟨List.mem_of_getElem? (i := 171) (by decide +kernel), by decide +kernel⟩
theorem ml_TG_86 : (Cond.methodLink "TimerGates" 86 y_Tm_comes : Cond) ∈ gtbl := List.mem_filter.mpr ⟨List.mem_of_getElem? (i := 172) (by decide +kernel), by decide +kernel⟩
theorem im_Tm_comes : (Cond.instanceMethod y_Tm_comes : Cond) ∈ gtbl := List.mem_filter.mpr ⟨List.mem_of_getElem? (i := 173) (by decide +kernel), by decide +kernel⟩
theorem sel_Tm_comes : (Cond.selects "TimerGates$Timer" y_Tm_comes y_Tm_comes : Cond) ∈ gtbl := List.mem_filter.mpr ⟨List.mem_of_getElem? (i := 174) (by decide +kernel), by decide +kernel⟩
theorem cd_Tm_comes : (Cond.code y_Tm_comes b_Tm_comes 2 (some .boolean) : Cond) ∈ gtbl := List.mem_filter.mpr ⟨List.mem_of_getElem? (i := 175) (by decide +kernel), by decide +kernel⟩
theorem ml_TG_92 : (Cond.methodLink "TimerGates" 92 y_TG_serve : Cond) ∈ gtbl := List.mem_filter.mpr ⟨List.mem_of_getElem? (i := 176) (by decide +kernel), by decide +kernel⟩
theorem im_TG_serve : (Cond.instanceMethod y_TG_serve : Cond) ∈ gtbl := List.mem_filter.mpr ⟨List.mem_of_getElem? (i := 178) (by decide +kernel), by decide +kernel⟩
theorem cd_TG_serve : (Cond.code y_TG_serve b_TG_serve 5 (some .int) : Cond) ∈ gtbl := List.mem_filter.mpr ⟨List.mem_of_getElem? (i := 179) (by decide +kernel), by decide +kernel⟩
theorem ml_TG_99 : (Cond.methodLink "TimerGates" 99 y_Itg_ntz : Cond) ∈ gtbl := List.mem_filter.mpr ⟨List.mem_of_getElem? (i := 180) (by decide +kernel), by decide +kernel⟩
theorem sta_Itg_ntz : (Cond.static y_Itg_ntz : Cond) ∈ gtbl := List.mem_filter.mpr ⟨List.mem_of_getElem? (i := 181) (by decide +kernel), by decide +kernel⟩
theorem cd_Itg_ntz : (Cond.code y_Itg_ntz b_Itg_ntz 2 (some .int) : Cond) ∈ gtbl := List.mem_filter.mpr ⟨List.mem_of_getElem? (i := 182) (by decide +kernel), by decide +kernel⟩
theorem cst_Itg_264 : (Cond.constant "java/lang/Integer" 264 65536 : Cond) ∈ gtbl := List.mem_filter.mpr ⟨List.mem_of_getElem? (i := 183) (by decide +kernel), by decide +kernel⟩
theorem ml_TG_110 : (Cond.methodLink "TimerGates" 110 y_Bk_add : Cond) ∈ gtbl := List.mem_filter.mpr ⟨List.mem_of_getElem? (i := 184) (by decide +kernel), by decide +kernel⟩
theorem im_Bk_add : (Cond.instanceMethod y_Bk_add : Cond) ∈ gtbl := List.mem_filter.mpr ⟨List.mem_of_getElem? (i := 185) (by decide +kernel), by decide +kernel⟩
theorem sel_Bk_add : (Cond.selects "TimerGates$Book" y_Bk_add y_Bk_add : Cond) ∈ gtbl := List.mem_filter.mpr ⟨List.mem_of_getElem? (i := 186) (by decide +kernel), by decide +kernel⟩
theorem cd_Bk_add : (Cond.code y_Bk_add b_Bk_add 5 none : Cond) ∈ gtbl := List.mem_filter.mpr ⟨List.mem_of_getElem? (i := 187) (by decide +kernel), by decide +kernel⟩
theorem ml_law_37 : (Cond.methodLink "TimerGatesLaw" 37 y_TG_next : Cond) ∈ gtbl := List.mem_filter.mpr ⟨List.mem_of_getElem? (i := 188) (by decide +kernel), by decide +kernel⟩
theorem im_TG_next : (Cond.instanceMethod y_TG_next : Cond) ∈ gtbl := List.mem_filter.mpr ⟨List.mem_of_getElem? (i := 189) (by decide +kernel), by decide +kernel⟩
theorem sel_TG_next : (Cond.selects "TimerGates" y_TG_next y_TG_next : Cond) ∈ gtbl := List.mem_filter.mpr ⟨List.mem_of_getElem? (i := 190) (by decide +kernel), by decide +kernel⟩
theorem cd_TG_next : (Cond.code y_TG_next b_TG_next 5 (some .int) : Cond) ∈ gtbl := List.mem_filter.mpr ⟨List.mem_of_getElem? (i := 191) (by decide +kernel), by decide +kernel⟩
theorem ml_law_41 : (Cond.methodLink "TimerGatesLaw" 41 y_TG_timer : Cond) ∈ gtbl := List.mem_filter.mpr ⟨List.mem_of_getElem? (i := 192) (by decide +kernel), by decide +kernel⟩
theorem im_TG_timer : (Cond.instanceMethod y_TG_timer : Cond) ∈ gtbl := List.mem_filter.mpr ⟨List.mem_of_getElem? (i := 193) (by decide +kernel), by decide +kernel⟩
theorem sel_TG_timer : (Cond.selects "TimerGates" y_TG_timer y_TG_timer : Cond) ∈ gtbl := List.mem_filter.mpr ⟨List.mem_of_getElem? (i := 194) (by decide +kernel), by decide +kernel⟩
theorem cd_TG_timer : (Cond.code y_TG_timer b_TG_timer 4 (some .int) : Cond) ∈ gtbl := List.mem_filter.mpr ⟨List.mem_of_getElem? (i := 195) (by decide +kernel), by decide +kernel⟩
theorem ml_law_46 : (Cond.methodLink "TimerGatesLaw" 46 y_TG_gateOf : Cond) ∈ gtbl := List.mem_filter.mpr ⟨List.mem_of_getElem? (i := 196) (by decide +kernel), by decide +kernel⟩
theorem im_TG_gateOf : (Cond.instanceMethod y_TG_gateOf : Cond) ∈ gtbl := List.mem_filter.mpr ⟨List.mem_of_getElem? (i := 197) (by decide +kernel), by decide +kernel⟩
theorem sel_TG_gateOf : (Cond.selects "TimerGates" y_TG_gateOf y_TG_gateOf : Cond) ∈ gtbl := List.mem_filter.mpr ⟨List.mem_of_getElem? (i := 198) (by decide +kernel), by decide +kernel⟩
theorem cd_TG_gateOf : (Cond.code y_TG_gateOf b_TG_gateOf 4 (some .int) : Cond) ∈ gtbl := List.mem_filter.mpr ⟨List.mem_of_getElem? (i := 199) (by decide +kernel), by decide +kernel⟩
theorem ml_law_50 : (Cond.methodLink "TimerGatesLaw" 50 y_TG_look : Cond) ∈ gtbl := List.mem_filter.mpr ⟨List.mem_of_getElem? (i := 200) (by decide +kernel), by decide +kernel⟩
theorem im_TG_look : (Cond.instanceMethod y_TG_look : Cond) ∈ gtbl := List.mem_filter.mpr ⟨List.mem_of_getElem? (i := 201) (by decide +kernel), by decide +kernel⟩
theorem sel_TG_look : (Cond.selects "TimerGates" y_TG_look y_TG_look : Cond) ∈ gtbl := List.mem_filter.mpr ⟨List.mem_of_getElem? (i := 202) (by decide +kernel), by decide +kernel⟩
theorem cd_TG_look : (Cond.code y_TG_look b_TG_look 7 (some .int) : Cond) ∈ gtbl := List.mem_filter.mpr ⟨List.mem_of_getElem? (i := 203) (by decide +kernel), by decide +kernel⟩
theorem ml_law_54 : (Cond.methodLink "TimerGatesLaw" 54 y_TG_served : Cond) ∈ gtbl := List.mem_filter.mpr ⟨List.mem_of_getElem? (i := 204) (by decide +kernel), by decide +kernel⟩
theorem im_TG_served : (Cond.instanceMethod y_TG_served : Cond) ∈ gtbl := List.mem_filter.mpr ⟨List.mem_of_getElem? (i := 205) (by decide +kernel), by decide +kernel⟩
theorem sel_TG_served : (Cond.selects "TimerGates" y_TG_served y_TG_served : Cond) ∈ gtbl := List.mem_filter.mpr ⟨List.mem_of_getElem? (i := 206) (by decide +kernel), by decide +kernel⟩
theorem cd_TG_served : (Cond.code y_TG_served b_TG_served 3 (some .int) : Cond) ∈ gtbl := List.mem_filter.mpr ⟨List.mem_of_getElem? (i := 207) (by decide +kernel), by decide +kernel⟩
theorem ml_TG_127 : (Cond.methodLink "TimerGates" 127 y_Bk_get : Cond) ∈ gtbl := List.mem_filter.mpr ⟨List.mem_of_getElem? (i := 208) (by decide +kernel), by decide +kernel⟩
theorem im_Bk_get : (Cond.instanceMethod y_Bk_get : Cond) ∈ gtbl := List.mem_filter.mpr ⟨List.mem_of_getElem? (i := 209) (by decide +kernel), by decide +kernel⟩
theorem sel_Bk_get : (Cond.selects "TimerGates$Book" y_Bk_get y_Bk_get : Cond) ∈ gtbl := List.mem_filter.mpr ⟨List.mem_of_getElem? (i := 210) (by decide +kernel), by decide +kernel⟩
theorem cd_Bk_get : (Cond.code y_Bk_get b_Bk_get 4 (some .int) : Cond) ∈ gtbl := List.mem_filter.mpr ⟨List.mem_of_getElem? (i := 211) (by decide +kernel), by decide +kernel⟩
theorem cl_law_10 : (Cond.classLink "TimerGatesLaw" 10 "TimerGatesModel" : Cond) ∈ gtbl := List.mem_filter.mpr ⟨List.mem_of_getElem? (i := 212) (by decide +kernel), by decide +kernel⟩
theorem inst_Md : (Cond.instantiable "TimerGatesModel" 18 : Cond) ∈ gtbl := List.mem_filter.mpr ⟨List.mem_of_getElem? (i := 213) (by decide +kernel), by decide +kernel⟩
theorem ml_law_12 : (Cond.methodLink "TimerGatesLaw" 12 y_Md_init : Cond) ∈ gtbl := List.mem_filter.mpr ⟨List.mem_of_getElem? (i := 214) (by decide +kernel), by decide +kernel⟩
theorem im_Md_init : (Cond.instanceMethod y_Md_init : Cond) ∈ gtbl := List.mem_filter.mpr ⟨List.mem_of_getElem? (i := 215) (by decide +kernel), by decide +kernel⟩
theorem cd_Md_init : (Cond.code y_Md_init b_Md_init 1 none : Cond) ∈ gtbl := List.mem_filter.mpr ⟨List.mem_of_getElem? (i := 216) (by decide +kernel), by decide +kernel⟩
theorem ml_Md_1 : (Cond.methodLink "TimerGatesModel" 1 objectInit : Cond) ∈ gtbl := List.mem_filter.mpr ⟨List.mem_of_getElem? (i := 217) (by decide +kernel), by decide +kernel⟩
theorem fl_Md_69 : (Cond.fieldLink "TimerGatesModel" 69 "TimerGatesModel" "now" "I" : Cond) ∈ gtbl := List.mem_filter.mpr ⟨List.mem_of_getElem? (i := 218) (by decide +kernel), by decide +kernel⟩
theorem fl_Md_62 : (Cond.fieldLink "TimerGatesModel" 62 "TimerGatesModel" "status" "I" : Cond) ∈ gtbl := List.mem_filter.mpr ⟨List.mem_of_getElem? (i := 219) (by decide +kernel), by decide +kernel⟩
theorem fl_Md_72 : (Cond.fieldLink "TimerGatesModel" 72 "TimerGatesModel" "served" "I" : Cond) ∈ gtbl := List.mem_filter.mpr ⟨List.mem_of_getElem? (i := 220) (by decide +kernel), by decide +kernel⟩
theorem fl_Md_7 : (Cond.fieldLink "TimerGatesModel" 7 "TimerGatesModel" "period" "[I" : Cond) ∈ gtbl := List.mem_filter.mpr ⟨List.mem_of_getElem? (i := 221) (by decide +kernel), by decide +kernel⟩
theorem fl_Md_13 : (Cond.fieldLink "TimerGatesModel" 13 "TimerGatesModel" "count" "[I" : Cond) ∈ gtbl := List.mem_filter.mpr ⟨List.mem_of_getElem? (i := 222) (by decide +kernel), by decide +kernel⟩
theorem fl_Md_16 : (Cond.fieldLink "TimerGatesModel" 16 "TimerGatesModel" "source" "[I" : Cond) ∈ gtbl := List.mem_filter.mpr ⟨List.mem_of_getElem? (i := 223) (by decide +kernel), by decide +kernel⟩
theorem fl_Md_19 : (Cond.fieldLink "TimerGatesModel" 19 "TimerGatesModel" "once" "[Z" : Cond) ∈ gtbl := List.mem_filter.mpr ⟨List.mem_of_getElem? (i := 224) (by decide +kernel), by decide +kernel⟩
theorem fl_Md_23 : (Cond.fieldLink "TimerGatesModel" 23 "TimerGatesModel" "runs" "[Z" : Cond) ∈ gtbl := List.mem_filter.mpr ⟨List.mem_of_getElem? (i := 225) (by decide +kernel), by decide +kernel⟩
theorem fl_Md_26 : (Cond.fieldLink "TimerGatesModel" 26 "TimerGatesModel" "often" "[I" : Cond) ∈ gtbl := List.mem_filter.mpr ⟨List.mem_of_getElem? (i := 226) (by decide +kernel), by decide +kernel⟩
theorem fl_Md_29 : (Cond.fieldLink "TimerGatesModel" 29 "TimerGatesModel" "mask" "[I" : Cond) ∈ gtbl := List.mem_filter.mpr ⟨List.mem_of_getElem? (i := 227) (by decide +kernel), by decide +kernel⟩
theorem fl_Md_32 : (Cond.fieldLink "TimerGatesModel" 32 "TimerGatesModel" "delay" "[I" : Cond) ∈ gtbl := List.mem_filter.mpr ⟨List.mem_of_getElem? (i := 228) (by decide +kernel), by decide +kernel⟩
theorem fl_Md_35 : (Cond.fieldLink "TimerGatesModel" 35 "TimerGatesModel" "waits" "[I" : Cond) ∈ gtbl := List.mem_filter.mpr ⟨List.mem_of_getElem? (i := 229) (by decide +kernel), by decide +kernel⟩
theorem fl_Md_38 : (Cond.fieldLink "TimerGatesModel" 38 "TimerGatesModel" "done" "[Z" : Cond) ∈ gtbl := List.mem_filter.mpr ⟨List.mem_of_getElem? (i := 230) (by decide +kernel), by decide +kernel⟩
theorem fl_Md_41 : (Cond.fieldLink "TimerGatesModel" 41 "TimerGatesModel" "servedBy" "[I" : Cond) ∈ gtbl := List.mem_filter.mpr ⟨List.mem_of_getElem? (i := 231) (by decide +kernel), by decide +kernel⟩
theorem fl_Md_44 : (Cond.fieldLink "TimerGatesModel" 44 "TimerGatesModel" "idle" "[I" : Cond) ∈ gtbl := List.mem_filter.mpr ⟨List.mem_of_getElem? (i := 232) (by decide +kernel), by decide +kernel⟩
theorem fl_Md_47 : (Cond.fieldLink "TimerGatesModel" 47 "TimerGatesModel" "latest" "[I" : Cond) ∈ gtbl := List.mem_filter.mpr ⟨List.mem_of_getElem? (i := 233) (by decide +kernel), by decide +kernel⟩
theorem fl_Md_50 : (Cond.fieldLink "TimerGatesModel" 50 "TimerGatesModel" "row" "[I" : Cond) ∈ gtbl := List.mem_filter.mpr ⟨List.mem_of_getElem? (i := 234) (by decide +kernel), by decide +kernel⟩
theorem acl_boolean : (Cond.arrayClass .boolean : Cond) ∈ gtbl := List.mem_filter.mpr ⟨List.mem_of_getElem? (i := 272) (by decide +kernel), by decide +kernel⟩
theorem ml_law_17 : (Cond.methodLink "TimerGatesLaw" 17 y_Md_set : Cond) ∈ gtbl := List.mem_filter.mpr ⟨List.mem_of_getElem? (i := 273) (by decide +kernel), by decide +kernel⟩
theorem im_Md_set : (Cond.instanceMethod y_Md_set : Cond) ∈ gtbl := List.mem_filter.mpr ⟨List.mem_of_getElem? (i := 274) (by decide +kernel), by decide +kernel⟩
theorem sel_Md_set : (Cond.selects "TimerGatesModel" y_Md_set y_Md_set : Cond) ∈ gtbl := List.mem_filter.mpr ⟨List.mem_of_getElem? (i := 275) (by decide +kernel), by decide +kernel⟩
theorem cd_Md_set : (Cond.code y_Md_set b_Md_set 5 (some .boolean) : Cond) ∈ gtbl := List.mem_filter.mpr ⟨List.mem_of_getElem? (i := 276) (by decide +kernel), by decide +kernel⟩
theorem ml_Md_57 : (Cond.methodLink "TimerGatesModel" 57 y_Md_isIn : Cond) ∈ gtbl := List.mem_filter.mpr ⟨List.mem_of_getElem? (i := 277) (by decide +kernel), by decide +kernel⟩
theorem sta_Md_isIn : (Cond.static y_Md_isIn : Cond) ∈ gtbl := List.mem_filter.mpr ⟨List.mem_of_getElem? (i := 278) (by decide +kernel), by decide +kernel⟩
theorem cd_Md_isIn : (Cond.code y_Md_isIn b_Md_isIn 3 (some .boolean) : Cond) ∈ gtbl := List.mem_filter.mpr ⟨List.mem_of_getElem? (i := 279) (by decide +kernel), by decide +kernel⟩
theorem cst_Md_61 : (Cond.constant "TimerGatesModel" 61 65535 : Cond) ∈ gtbl := List.mem_filter.mpr ⟨List.mem_of_getElem? (i := 280) (by decide +kernel), by decide +kernel⟩
theorem ml_law_22 : (Cond.methodLink "TimerGatesLaw" 22 y_Md_turn : Cond) ∈ gtbl := List.mem_filter.mpr ⟨List.mem_of_getElem? (i := 281) (by decide +kernel), by decide +kernel⟩
theorem im_Md_turn : (Cond.instanceMethod y_Md_turn : Cond) ∈ gtbl := List.mem_filter.mpr ⟨List.mem_of_getElem? (i := 282) (by decide +kernel), by decide +kernel⟩
theorem sel_Md_turn : (Cond.selects "TimerGatesModel" y_Md_turn y_Md_turn : Cond) ∈ gtbl := List.mem_filter.mpr ⟨List.mem_of_getElem? (i := 283) (by decide +kernel), by decide +kernel⟩
theorem cd_Md_turn : (Cond.code y_Md_turn b_Md_turn 3 (some .boolean) : Cond) ∈ gtbl := List.mem_filter.mpr ⟨List.mem_of_getElem? (i := 284) (by decide +kernel), by decide +kernel⟩
theorem ml_law_27 : (Cond.methodLink "TimerGatesLaw" 27 y_Md_gate : Cond) ∈ gtbl := List.mem_filter.mpr ⟨List.mem_of_getElem? (i := 285) (by decide +kernel), by decide +kernel⟩
theorem im_Md_gate : (Cond.instanceMethod y_Md_gate : Cond) ∈ gtbl := List.mem_filter.mpr ⟨List.mem_of_getElem? (i := 286) (by decide +kernel), by decide +kernel⟩
theorem sel_Md_gate : (Cond.selects "TimerGatesModel" y_Md_gate y_Md_gate : Cond) ∈ gtbl := List.mem_filter.mpr ⟨List.mem_of_getElem? (i := 287) (by decide +kernel), by decide +kernel⟩
theorem cd_Md_gate : (Cond.code y_Md_gate b_Md_gate 4 (some .boolean) : Cond) ∈ gtbl := List.mem_filter.mpr ⟨List.mem_of_getElem? (i := 288) (by decide +kernel), by decide +kernel⟩
theorem ml_law_32 : (Cond.methodLink "TimerGatesLaw" 32 y_Md_clear : Cond) ∈ gtbl := List.mem_filter.mpr ⟨List.mem_of_getElem? (i := 289) (by decide +kernel), by decide +kernel⟩
theorem im_Md_clear : (Cond.instanceMethod y_Md_clear : Cond) ∈ gtbl := List.mem_filter.mpr ⟨List.mem_of_getElem? (i := 290) (by decide +kernel), by decide +kernel⟩
theorem sel_Md_clear : (Cond.selects "TimerGatesModel" y_Md_clear y_Md_clear : Cond) ∈ gtbl := List.mem_filter.mpr ⟨List.mem_of_getElem? (i := 291) (by decide +kernel), by decide +kernel⟩
theorem cd_Md_clear : (Cond.code y_Md_clear b_Md_clear 4 (some .int) : Cond) ∈ gtbl := List.mem_filter.mpr ⟨List.mem_of_getElem? (i := 292) (by decide +kernel), by decide +kernel⟩
theorem ml_law_36 : (Cond.methodLink "TimerGatesLaw" 36 y_Md_advance : Cond) ∈ gtbl := List.mem_filter.mpr ⟨List.mem_of_getElem? (i := 293) (by decide +kernel), by decide +kernel⟩
theorem im_Md_advance : (Cond.instanceMethod y_Md_advance : Cond) ∈ gtbl := List.mem_filter.mpr ⟨List.mem_of_getElem? (i := 294) (by decide +kernel), by decide +kernel⟩
theorem sel_Md_advance : (Cond.selects "TimerGatesModel" y_Md_advance y_Md_advance : Cond) ∈ gtbl := List.mem_filter.mpr ⟨List.mem_of_getElem? (i := 295) (by decide +kernel), by decide +kernel⟩
theorem cd_Md_advance : (Cond.code y_Md_advance b_Md_advance 4 (some .int) : Cond) ∈ gtbl := List.mem_filter.mpr ⟨List.mem_of_getElem? (i := 296) (by decide +kernel), by decide +kernel⟩
theorem ml_Md_82 : (Cond.methodLink "TimerGatesModel" 82 y_Md_tick : Cond) ∈ gtbl := List.mem_filter.mpr ⟨List.mem_of_getElem? (i := 297) (by decide +kernel), by decide +kernel⟩
theorem im_Md_tick : (Cond.instanceMethod y_Md_tick : Cond) ∈ gtbl := List.mem_filter.mpr ⟨List.mem_of_getElem? (i := 299) (by decide +kernel), by decide +kernel⟩
theorem cd_Md_tick : (Cond.code y_Md_tick b_Md_tick 3 none : Cond) ∈ gtbl := List.mem_filter.mpr ⟨List.mem_of_getElem? (i := 300) (by decide +kernel), by decide +kernel⟩
theorem ml_Md_75 : (Cond.methodLink "TimerGatesModel" 75 y_Md_event : Cond) ∈ gtbl := List.mem_filter.mpr ⟨List.mem_of_getElem? (i := 301) (by decide +kernel), by decide +kernel⟩
theorem im_Md_event : (Cond.instanceMethod y_Md_event : Cond) ∈ gtbl := List.mem_filter.mpr ⟨List.mem_of_getElem? (i := 303) (by decide +kernel), by decide +kernel⟩
theorem cd_Md_event : (Cond.code y_Md_event b_Md_event 2 (some .boolean) : Cond) ∈ gtbl := List.mem_filter.mpr ⟨List.mem_of_getElem? (i := 304) (by decide +kernel), by decide +kernel⟩
theorem ml_Md_78 : (Cond.methodLink "TimerGatesModel" 78 y_Md_serve : Cond) ∈ gtbl := List.mem_filter.mpr ⟨List.mem_of_getElem? (i := 305) (by decide +kernel), by decide +kernel⟩
theorem im_Md_serve : (Cond.instanceMethod y_Md_serve : Cond) ∈ gtbl := List.mem_filter.mpr ⟨List.mem_of_getElem? (i := 307) (by decide +kernel), by decide +kernel⟩
theorem cd_Md_serve : (Cond.code y_Md_serve b_Md_serve 4 none : Cond) ∈ gtbl := List.mem_filter.mpr ⟨List.mem_of_getElem? (i := 308) (by decide +kernel), by decide +kernel⟩
theorem ml_Md_65 : (Cond.methodLink "TimerGatesModel" 65 y_Md_asks : Cond) ∈ gtbl := List.mem_filter.mpr ⟨List.mem_of_getElem? (i := 309) (by decide +kernel), by decide +kernel⟩
theorem im_Md_asks : (Cond.instanceMethod y_Md_asks : Cond) ∈ gtbl := List.mem_filter.mpr ⟨List.mem_of_getElem? (i := 311) (by decide +kernel), by decide +kernel⟩
theorem cd_Md_asks : (Cond.code y_Md_asks b_Md_asks 2 (some .boolean) : Cond) ∈ gtbl := List.mem_filter.mpr ⟨List.mem_of_getElem? (i := 312) (by decide +kernel), by decide +kernel⟩
theorem ml_law_40 : (Cond.methodLink "TimerGatesLaw" 40 y_Md_next : Cond) ∈ gtbl := List.mem_filter.mpr ⟨List.mem_of_getElem? (i := 313) (by decide +kernel), by decide +kernel⟩
theorem im_Md_next : (Cond.instanceMethod y_Md_next : Cond) ∈ gtbl := List.mem_filter.mpr ⟨List.mem_of_getElem? (i := 314) (by decide +kernel), by decide +kernel⟩
theorem sel_Md_next : (Cond.selects "TimerGatesModel" y_Md_next y_Md_next : Cond) ∈ gtbl := List.mem_filter.mpr ⟨List.mem_of_getElem? (i := 315) (by decide +kernel), by decide +kernel⟩
theorem cd_Md_next : (Cond.code y_Md_next b_Md_next 4 (some .int) : Cond) ∈ gtbl := List.mem_filter.mpr ⟨List.mem_of_getElem? (i := 316) (by decide +kernel), by decide +kernel⟩
theorem ml_law_45 : (Cond.methodLink "TimerGatesLaw" 45 y_Md_timer : Cond) ∈ gtbl := List.mem_filter.mpr ⟨List.mem_of_getElem? (i := 317) (by decide +kernel), by decide +kernel⟩
theorem im_Md_timer : (Cond.instanceMethod y_Md_timer : Cond) ∈ gtbl := List.mem_filter.mpr ⟨List.mem_of_getElem? (i := 318) (by decide +kernel), by decide +kernel⟩
theorem sel_Md_timer : (Cond.selects "TimerGatesModel" y_Md_timer y_Md_timer : Cond) ∈ gtbl := List.mem_filter.mpr ⟨List.mem_of_getElem? (i := 319) (by decide +kernel), by decide +kernel⟩
theorem cd_Md_timer : (Cond.code y_Md_timer b_Md_timer 3 (some .int) : Cond) ∈ gtbl := List.mem_filter.mpr ⟨List.mem_of_getElem? (i := 320) (by decide +kernel), by decide +kernel⟩
theorem ml_law_49 : (Cond.methodLink "TimerGatesLaw" 49 y_Md_gateOf : Cond) ∈ gtbl := List.mem_filter.mpr ⟨List.mem_of_getElem? (i := 321) (by decide +kernel), by decide +kernel⟩
theorem im_Md_gateOf : (Cond.instanceMethod y_Md_gateOf : Cond) ∈ gtbl := List.mem_filter.mpr ⟨List.mem_of_getElem? (i := 322) (by decide +kernel), by decide +kernel⟩
theorem sel_Md_gateOf : (Cond.selects "TimerGatesModel" y_Md_gateOf y_Md_gateOf : Cond) ∈ gtbl := List.mem_filter.mpr ⟨List.mem_of_getElem? (i := 323) (by decide +kernel), by decide +kernel⟩
theorem cd_Md_gateOf : (Cond.code y_Md_gateOf b_Md_gateOf 3 (some .int) : Cond) ∈ gtbl := List.mem_filter.mpr ⟨List.mem_of_getElem? (i := 324) (by decide +kernel), by decide +kernel⟩
theorem ml_law_53 : (Cond.methodLink "TimerGatesLaw" 53 y_Md_look : Cond) ∈ gtbl := List.mem_filter.mpr ⟨List.mem_of_getElem? (i := 325) (by decide +kernel), by decide +kernel⟩
theorem im_Md_look : (Cond.instanceMethod y_Md_look : Cond) ∈ gtbl := List.mem_filter.mpr ⟨List.mem_of_getElem? (i := 326) (by decide +kernel), by decide +kernel⟩
theorem sel_Md_look : (Cond.selects "TimerGatesModel" y_Md_look y_Md_look : Cond) ∈ gtbl := List.mem_filter.mpr ⟨List.mem_of_getElem? (i := 327) (by decide +kernel), by decide +kernel⟩
theorem cd_Md_look : (Cond.code y_Md_look b_Md_look 4 (some .int) : Cond) ∈ gtbl := List.mem_filter.mpr ⟨List.mem_of_getElem? (i := 328) (by decide +kernel), by decide +kernel⟩
theorem ml_law_57 : (Cond.methodLink "TimerGatesLaw" 57 y_Md_served : Cond) ∈ gtbl := List.mem_filter.mpr ⟨List.mem_of_getElem? (i := 329) (by decide +kernel), by decide +kernel⟩
theorem im_Md_served : (Cond.instanceMethod y_Md_served : Cond) ∈ gtbl := List.mem_filter.mpr ⟨List.mem_of_getElem? (i := 330) (by decide +kernel), by decide +kernel⟩
theorem sel_Md_served : (Cond.selects "TimerGatesModel" y_Md_served y_Md_served : Cond) ∈ gtbl := List.mem_filter.mpr ⟨List.mem_of_getElem? (i := 331) (by decide +kernel), by decide +kernel⟩
theorem cd_Md_served : (Cond.code y_Md_served b_Md_served 3 (some .int) : Cond) ∈ gtbl := List.mem_filter.mpr ⟨List.mem_of_getElem? (i := 332) (by decide +kernel), by decide +kernel⟩
def nestW : List Cond := [.methodLinkNest "TimerGates" 23 y_Bk_init "TimerGates", .fieldLinkNest "TimerGates" 124 "TimerGates$Book" "many" "I" "TimerGates", .methodLinkNest "TimerGates" 28 y_Tm_init "TimerGates", .fieldLinkNest "TimerGates" 39 "TimerGates$Timer" "period" "I" "TimerGates", .fieldLinkNest "TimerGates" 42 "TimerGates$Timer" "count" "I" "TimerGates", .fieldLinkNest "TimerGates" 35 "TimerGates$Timer" "source" "I" "TimerGates", .fieldLinkNest "TimerGates" 49 "TimerGates$Timer" "runs" "Z" "TimerGates", .fieldLinkNest "TimerGates" 45 "TimerGates$Timer" "once" "Z" "TimerGates", .fieldLinkNest "TimerGates" 121 "TimerGates$Timer" "ended" "I" "TimerGates", .fieldLinkNest "TimerGates" 89 "TimerGates$Timer" "missed" "I" "TimerGates", .fieldLinkNest "TimerGates" 103 "TimerGates$Timer" "served" "I" "TimerGates", .fieldLinkNest "TimerGates" 64 "TimerGates$Timer" "cleared" "I" "TimerGates", .methodLinkNest "TimerGates" 29 y_Gt_init "TimerGates", .fieldLinkNest "TimerGates" 55 "TimerGates$Gate" "mask" "I" "TimerGates", .fieldLinkNest "TimerGates" 58 "TimerGates$Gate" "delay" "I" "TimerGates", .fieldLinkNest "TimerGates" 76 "TimerGates$Gate" "left" "I" "TimerGates", .fieldLinkNest "TimerGates" 106 "TimerGates$Gate" "served" "I" "TimerGates", .fieldLinkNest "TimerGates" 96 "TimerGates$Gate" "idle" "I" "TimerGates", .fieldLinkNest "TimerGates" 107 "TimerGates$Gate" "latest" "I" "TimerGates"]
theorem ml_TG_23 : (Cond.methodLinkNest "TimerGates" 23 y_Bk_init "TimerGates" : Cond) ∈ nestW := List.mem_of_getElem? (i := 0) rfl
theorem fl_TG_124 : (Cond.fieldLinkNest "TimerGates" 124 "TimerGates$Book" "many" "I" "TimerGates" : Cond) ∈ nestW := List.mem_of_getElem? (i := 1) rfl
theorem ml_TG_28 : (Cond.methodLinkNest "TimerGates" 28 y_Tm_init "TimerGates" : Cond) ∈ nestW := List.mem_of_getElem? (i := 2) rfl
theorem fl_TG_39 : (Cond.fieldLinkNest "TimerGates" 39 "TimerGates$Timer" "period" "I" "TimerGates" : Cond) ∈ nestW := List.mem_of_getElem? (i := 3) rfl
theorem fl_TG_42 : (Cond.fieldLinkNest "TimerGates" 42 "TimerGates$Timer" "count" "I" "TimerGates" : Cond) ∈ nestW := List.mem_of_getElem? (i := 4) rfl
theorem fl_TG_35 : (Cond.fieldLinkNest "TimerGates" 35 "TimerGates$Timer" "source" "I" "TimerGates" : Cond) ∈ nestW := List.mem_of_getElem? (i := 5) rfl
theorem fl_TG_49 : (Cond.fieldLinkNest "TimerGates" 49 "TimerGates$Timer" "runs" "Z" "TimerGates" : Cond) ∈ nestW := List.mem_of_getElem? (i := 6) rfl
theorem fl_TG_45 : (Cond.fieldLinkNest "TimerGates" 45 "TimerGates$Timer" "once" "Z" "TimerGates" : Cond) ∈ nestW := List.mem_of_getElem? (i := 7) rfl
theorem fl_TG_121 : (Cond.fieldLinkNest "TimerGates" 121 "TimerGates$Timer" "ended" "I" "TimerGates" : Cond) ∈ nestW := List.mem_of_getElem? (i := 8) rfl
theorem fl_TG_89 : (Cond.fieldLinkNest "TimerGates" 89 "TimerGates$Timer" "missed" "I" "TimerGates" : Cond) ∈ nestW := List.mem_of_getElem? (i := 9) rfl
theorem fl_TG_103 : (Cond.fieldLinkNest "TimerGates" 103 "TimerGates$Timer" "served" "I" "TimerGates" : Cond) ∈ nestW := List.mem_of_getElem? (i := 10) rfl
theorem fl_TG_64 : (Cond.fieldLinkNest "TimerGates" 64 "TimerGates$Timer" "cleared" "I" "TimerGates" : Cond) ∈ nestW := List.mem_of_getElem? (i := 11) rfl
theorem ml_TG_29 : (Cond.methodLinkNest "TimerGates" 29 y_Gt_init "TimerGates" : Cond) ∈ nestW := List.mem_of_getElem? (i := 12) rfl
theorem fl_TG_55 : (Cond.fieldLinkNest "TimerGates" 55 "TimerGates$Gate" "mask" "I" "TimerGates" : Cond) ∈ nestW := List.mem_of_getElem? (i := 13) rfl
theorem fl_TG_58 : (Cond.fieldLinkNest "TimerGates" 58 "TimerGates$Gate" "delay" "I" "TimerGates" : Cond) ∈ nestW := List.mem_of_getElem? (i := 14) rfl
theorem fl_TG_76 : (Cond.fieldLinkNest "TimerGates" 76 "TimerGates$Gate" "left" "I" "TimerGates" : Cond) ∈ nestW := List.mem_of_getElem? (i := 15) rfl
theorem fl_TG_106 : (Cond.fieldLinkNest "TimerGates" 106 "TimerGates$Gate" "served" "I" "TimerGates" : Cond) ∈ nestW := List.mem_of_getElem? (i := 16) rfl
theorem fl_TG_96 : (Cond.fieldLinkNest "TimerGates" 96 "TimerGates$Gate" "idle" "I" "TimerGates" : Cond) ∈ nestW := List.mem_of_getElem? (i := 17) rfl
theorem fl_TG_107 : (Cond.fieldLinkNest "TimerGates" 107 "TimerGates$Gate" "latest" "I" "TimerGates" : Cond) ∈ nestW := List.mem_of_getElem? (i := 18) rfl
theorem nest_tbl : ∀ w ∈ nestW, w ∈ lw_tbl := by decide +kernel
theorem aov_Tm : (Cond.arrayOver (.object "TimerGates$Timer") : Cond) ∈ lw_tbl := List.mem_of_getElem? (i := 25) (by decide +kernel)
theorem aov_Gt : (Cond.arrayOver (.object "TimerGates$Gate") : Cond) ∈ lw_tbl := List.mem_of_getElem? (i := 27) (by decide +kernel)
theorem sel_TG_quiet : (Cond.selects R_TG y_TG_quiet y_TG_quiet : Cond) ∈ gtbl := List.mem_filter.mpr ⟨List.mem_of_getElem? (i := 0) (by decide +kernel), by decide +kernel⟩
theorem sel_TG_asks : (Cond.selects R_TG y_TG_asks y_TG_asks : Cond) ∈ gtbl := List.mem_filter.mpr ⟨List.mem_of_getElem? (i := 1) (by decide +kernel), by decide +kernel⟩
theorem sel_TG_pass : (Cond.selects R_TG y_TG_pass y_TG_pass : Cond) ∈ gtbl := List.mem_filter.mpr ⟨List.mem_of_getElem? (i := 2) (by decide +kernel), by decide +kernel⟩
theorem sel_TG_serve : (Cond.selects R_TG y_TG_serve y_TG_serve : Cond) ∈ gtbl := List.mem_filter.mpr ⟨List.mem_of_getElem? (i := 3) (by decide +kernel), by decide +kernel⟩
theorem sel_Md_tick : (Cond.selects R_Md y_Md_tick y_Md_tick : Cond) ∈ gtbl := List.mem_filter.mpr ⟨List.mem_of_getElem? (i := 4) (by decide +kernel), by decide +kernel⟩
theorem sel_Md_event : (Cond.selects R_Md y_Md_event y_Md_event : Cond) ∈ gtbl := List.mem_filter.mpr ⟨List.mem_of_getElem? (i := 5) (by decide +kernel), by decide +kernel⟩
theorem sel_Md_serve : (Cond.selects R_Md y_Md_serve y_Md_serve : Cond) ∈ gtbl := List.mem_filter.mpr ⟨List.mem_of_getElem? (i := 6) (by decide +kernel), by decide +kernel⟩
theorem sel_Md_asks : (Cond.selects R_Md y_Md_asks y_Md_asks : Cond) ∈ gtbl := List.mem_filter.mpr ⟨List.mem_of_getElem? (i := 7) (by decide +kernel), by decide +kernel⟩
end
section
theorem d_TG_init_0 : decode b_TG_init 0 = .ok (.aload_n 0, 1) := by decide +kernel
theorem d_TG_init_1 : decode b_TG_init 1 = .ok (.invokespecial 1, 3) := by decide +kernel
theorem d_TG_init_4 : decode b_TG_init 4 = .ok (.aload_n 0, 1) := by decide +kernel
theorem d_TG_init_5 : decode b_TG_init 5 = .ok (.bipush 8, 2) := by decide +kernel
theorem d_TG_init_7 : decode b_TG_init 7 = .ok (.anewarray 9, 3) := by decide +kernel
theorem d_TG_init_10 : decode b_TG_init 10 = .ok (.putfield 11, 3) := by decide +kernel
theorem d_TG_init_13 : decode b_TG_init 13 = .ok (.aload_n 0, 1) := by decide +kernel
theorem d_TG_init_14 : decode b_TG_init 14 = .ok (.iconst 4, 1) := by decide +kernel
theorem d_TG_init_15 : decode b_TG_init 15 = .ok (.anewarray 15, 3) := by decide +kernel
theorem d_TG_init_18 : decode b_TG_init 18 = .ok (.putfield 17, 3) := by decide +kernel
theorem d_TG_init_21 : decode b_TG_init 21 = .ok (.aload_n 0, 1) := by decide +kernel
theorem d_TG_init_22 : decode b_TG_init 22 = .ok (.new 21, 3) := by decide +kernel
theorem d_TG_init_25 : decode b_TG_init 25 = .ok (.dup, 1) := by decide +kernel
theorem d_TG_init_26 : decode b_TG_init 26 = .ok (.invokespecial 23, 3) := by decide +kernel
theorem d_TG_init_29 : decode b_TG_init 29 = .ok (.putfield 24, 3) := by decide +kernel
theorem d_TG_init_32 : decode b_TG_init 32 = .ok (.iconst 0, 1) := by decide +kernel
theorem d_TG_init_33 : decode b_TG_init 33 = .ok (.istore_n 1, 1) := by decide +kernel
theorem d_TG_init_34 : decode b_TG_init 34 = .ok (.iload_n 1, 1) := by decide +kernel
theorem d_TG_init_35 : decode b_TG_init 35 = .ok (.bipush 8, 2) := by decide +kernel
theorem d_TG_init_37 : decode b_TG_init 37 = .ok (.if_icmp .ge 22, 3) := by decide +kernel
theorem d_TG_init_40 : decode b_TG_init 40 = .ok (.aload_n 0, 1) := by decide +kernel
theorem d_TG_init_41 : decode b_TG_init 41 = .ok (.getfield 11, 3) := by decide +kernel
theorem d_TG_init_44 : decode b_TG_init 44 = .ok (.iload_n 1, 1) := by decide +kernel
theorem d_TG_init_45 : decode b_TG_init 45 = .ok (.new 9, 3) := by decide +kernel
theorem d_TG_init_48 : decode b_TG_init 48 = .ok (.dup, 1) := by decide +kernel
theorem d_TG_init_49 : decode b_TG_init 49 = .ok (.invokespecial 28, 3) := by decide +kernel
theorem d_TG_init_52 : decode b_TG_init 52 = .ok (.aastore, 1) := by decide +kernel
theorem d_TG_init_53 : decode b_TG_init 53 = .ok (.iinc 1 1, 3) := by decide +kernel
theorem d_TG_init_56 : decode b_TG_init 56 = .ok (.goto (-22), 3) := by decide +kernel
theorem d_TG_init_59 : decode b_TG_init 59 = .ok (.iconst 0, 1) := by decide +kernel
theorem d_TG_init_60 : decode b_TG_init 60 = .ok (.istore_n 1, 1) := by decide +kernel
theorem d_TG_init_61 : decode b_TG_init 61 = .ok (.iload_n 1, 1) := by decide +kernel
theorem d_TG_init_62 : decode b_TG_init 62 = .ok (.iconst 4, 1) := by decide +kernel
theorem d_TG_init_63 : decode b_TG_init 63 = .ok (.if_icmp .ge 22, 3) := by decide +kernel
theorem d_TG_init_66 : decode b_TG_init 66 = .ok (.aload_n 0, 1) := by decide +kernel
theorem d_TG_init_67 : decode b_TG_init 67 = .ok (.getfield 17, 3) := by decide +kernel
theorem d_TG_init_70 : decode b_TG_init 70 = .ok (.iload_n 1, 1) := by decide +kernel
theorem d_TG_init_71 : decode b_TG_init 71 = .ok (.new 15, 3) := by decide +kernel
theorem d_TG_init_74 : decode b_TG_init 74 = .ok (.dup, 1) := by decide +kernel
theorem d_TG_init_75 : decode b_TG_init 75 = .ok (.invokespecial 29, 3) := by decide +kernel
theorem d_TG_init_78 : decode b_TG_init 78 = .ok (.aastore, 1) := by decide +kernel
theorem d_TG_init_79 : decode b_TG_init 79 = .ok (.iinc 1 1, 3) := by decide +kernel
theorem d_TG_init_82 : decode b_TG_init 82 = .ok (.goto (-21), 3) := by decide +kernel
theorem d_TG_init_85 : decode b_TG_init 85 = .ok (.return_, 1) := by decide +kernel
theorem d_Bk_init_0 : decode b_Bk_init 0 = .ok (.aload_n 0, 1) := by decide +kernel
theorem d_Bk_init_1 : decode b_Bk_init 1 = .ok (.invokespecial 3, 3) := by decide +kernel
theorem d_Bk_init_4 : decode b_Bk_init 4 = .ok (.aload_n 0, 1) := by decide +kernel
theorem d_Bk_init_5 : decode b_Bk_init 5 = .ok (.bipush 16, 2) := by decide +kernel
theorem d_Bk_init_7 : decode b_Bk_init 7 = .ok (.newarray .int, 2) := by decide +kernel
theorem d_Bk_init_9 : decode b_Bk_init 9 = .ok (.putfield 9, 3) := by decide +kernel
theorem d_Bk_init_12 : decode b_Bk_init 12 = .ok (.aload_n 0, 1) := by decide +kernel
theorem d_Bk_init_13 : decode b_Bk_init 13 = .ok (.bipush 16, 2) := by decide +kernel
theorem d_Bk_init_15 : decode b_Bk_init 15 = .ok (.newarray .int, 2) := by decide +kernel
theorem d_Bk_init_17 : decode b_Bk_init 17 = .ok (.putfield 15, 3) := by decide +kernel
theorem d_Bk_init_20 : decode b_Bk_init 20 = .ok (.aload_n 0, 1) := by decide +kernel
theorem d_Bk_init_21 : decode b_Bk_init 21 = .ok (.bipush 16, 2) := by decide +kernel
theorem d_Bk_init_23 : decode b_Bk_init 23 = .ok (.newarray .int, 2) := by decide +kernel
theorem d_Bk_init_25 : decode b_Bk_init 25 = .ok (.putfield 18, 3) := by decide +kernel
theorem d_Bk_init_28 : decode b_Bk_init 28 = .ok (.return_, 1) := by decide +kernel
theorem d_Tm_init_0 : decode b_Tm_init 0 = .ok (.aload_n 0, 1) := by decide +kernel
theorem d_Tm_init_1 : decode b_Tm_init 1 = .ok (.invokespecial 1, 3) := by decide +kernel
theorem d_Tm_init_4 : decode b_Tm_init 4 = .ok (.aload_n 0, 1) := by decide +kernel
theorem d_Tm_init_5 : decode b_Tm_init 5 = .ok (.iconst 1, 1) := by decide +kernel
theorem d_Tm_init_6 : decode b_Tm_init 6 = .ok (.putfield 7, 3) := by decide +kernel
theorem d_Tm_init_9 : decode b_Tm_init 9 = .ok (.aload_n 0, 1) := by decide +kernel
theorem d_Tm_init_10 : decode b_Tm_init 10 = .ok (.iconst 1, 1) := by decide +kernel
theorem d_Tm_init_11 : decode b_Tm_init 11 = .ok (.putfield 13, 3) := by decide +kernel
theorem d_Tm_init_14 : decode b_Tm_init 14 = .ok (.return_, 1) := by decide +kernel
theorem d_Gt_init_0 : decode b_Gt_init 0 = .ok (.aload_n 0, 1) := by decide +kernel
theorem d_Gt_init_1 : decode b_Gt_init 1 = .ok (.invokespecial 3, 3) := by decide +kernel
theorem d_Gt_init_4 : decode b_Gt_init 4 = .ok (.aload_n 0, 1) := by decide +kernel
theorem d_Gt_init_5 : decode b_Gt_init 5 = .ok (.iconst 1, 1) := by decide +kernel
theorem d_Gt_init_6 : decode b_Gt_init 6 = .ok (.putfield 9, 3) := by decide +kernel
theorem d_Gt_init_9 : decode b_Gt_init 9 = .ok (.aload_n 0, 1) := by decide +kernel
theorem d_Gt_init_10 : decode b_Gt_init 10 = .ok (.iconst (-1), 1) := by decide +kernel
theorem d_Gt_init_11 : decode b_Gt_init 11 = .ok (.putfield 15, 3) := by decide +kernel
theorem d_Gt_init_14 : decode b_Gt_init 14 = .ok (.return_, 1) := by decide +kernel
theorem d_TG_set_0 : decode b_TG_set 0 = .ok (.iload_n 1, 1) := by decide +kernel
theorem d_TG_set_1 : decode b_TG_set 1 = .ok (.invokestatic 30, 3) := by decide +kernel
theorem d_TG_set_4 : decode b_TG_set 4 = .ok (.ifCond .eq 31, 3) := by decide +kernel
theorem d_TG_set_7 : decode b_TG_set 7 = .ok (.iload_n 2, 1) := by decide +kernel
theorem d_TG_set_8 : decode b_TG_set 8 = .ok (.ifCond .lt 27, 3) := by decide +kernel
theorem d_TG_set_11 : decode b_TG_set 11 = .ok (.iload_n 2, 1) := by decide +kernel
theorem d_TG_set_12 : decode b_TG_set 12 = .ok (.iload_n 1, 1) := by decide +kernel
theorem d_TG_set_13 : decode b_TG_set 13 = .ok (.ifCond .ne 7, 3) := by decide +kernel
theorem d_TG_set_16 : decode b_TG_set 16 = .ok (.iconst 0, 1) := by decide +kernel
theorem d_TG_set_17 : decode b_TG_set 17 = .ok (.goto 4, 3) := by decide +kernel
theorem d_TG_set_20 : decode b_TG_set 20 = .ok (.iconst 1, 1) := by decide +kernel
theorem d_TG_set_21 : decode b_TG_set 21 = .ok (.if_icmp .gt 14, 3) := by decide +kernel
theorem d_TG_set_24 : decode b_TG_set 24 = .ok (.iload_n 3, 1) := by decide +kernel
theorem d_TG_set_25 : decode b_TG_set 25 = .ok (.iconst 1, 1) := by decide +kernel
theorem d_TG_set_26 : decode b_TG_set 26 = .ok (.if_icmp .lt 9, 3) := by decide +kernel
theorem d_TG_set_29 : decode b_TG_set 29 = .ok (.iload_n 3, 1) := by decide +kernel
theorem d_TG_set_30 : decode b_TG_set 30 = .ok (.ldc 34, 2) := by decide +kernel
theorem d_TG_set_32 : decode b_TG_set 32 = .ok (.if_icmp .le 5, 3) := by decide +kernel
theorem d_TG_set_35 : decode b_TG_set 35 = .ok (.iconst 0, 1) := by decide +kernel
theorem d_TG_set_36 : decode b_TG_set 36 = .ok (.ireturn, 1) := by decide +kernel
theorem d_TG_set_37 : decode b_TG_set 37 = .ok (.aload_n 0, 1) := by decide +kernel
theorem d_TG_set_38 : decode b_TG_set 38 = .ok (.getfield 11, 3) := by decide +kernel
theorem d_TG_set_41 : decode b_TG_set 41 = .ok (.iload_n 1, 1) := by decide +kernel
theorem d_TG_set_42 : decode b_TG_set 42 = .ok (.aaload, 1) := by decide +kernel
theorem d_TG_set_43 : decode b_TG_set 43 = .ok (.astore 5, 2) := by decide +kernel
theorem d_TG_set_45 : decode b_TG_set 45 = .ok (.aload 5, 2) := by decide +kernel
theorem d_TG_set_47 : decode b_TG_set 47 = .ok (.iload_n 2, 1) := by decide +kernel
theorem d_TG_set_48 : decode b_TG_set 48 = .ok (.putfield 35, 3) := by decide +kernel
theorem d_TG_set_51 : decode b_TG_set 51 = .ok (.aload 5, 2) := by decide +kernel
theorem d_TG_set_53 : decode b_TG_set 53 = .ok (.iload_n 3, 1) := by decide +kernel
theorem d_TG_set_54 : decode b_TG_set 54 = .ok (.putfield 39, 3) := by decide +kernel
theorem d_TG_set_57 : decode b_TG_set 57 = .ok (.aload 5, 2) := by decide +kernel
theorem d_TG_set_59 : decode b_TG_set 59 = .ok (.iload_n 3, 1) := by decide +kernel
theorem d_TG_set_60 : decode b_TG_set 60 = .ok (.putfield 42, 3) := by decide +kernel
theorem d_TG_set_63 : decode b_TG_set 63 = .ok (.aload 5, 2) := by decide +kernel
theorem d_TG_set_65 : decode b_TG_set 65 = .ok (.iload 4, 2) := by decide +kernel
theorem d_TG_set_67 : decode b_TG_set 67 = .ok (.putfield 45, 3) := by decide +kernel
theorem d_TG_set_70 : decode b_TG_set 70 = .ok (.aload 5, 2) := by decide +kernel
theorem d_TG_set_72 : decode b_TG_set 72 = .ok (.iconst 0, 1) := by decide +kernel
theorem d_TG_set_73 : decode b_TG_set 73 = .ok (.putfield 49, 3) := by decide +kernel
theorem d_TG_set_76 : decode b_TG_set 76 = .ok (.iconst 1, 1) := by decide +kernel
theorem d_TG_set_77 : decode b_TG_set 77 = .ok (.ireturn, 1) := by decide +kernel
theorem d_TG_isTimer_0 : decode b_TG_isTimer 0 = .ok (.iload_n 0, 1) := by decide +kernel
theorem d_TG_isTimer_1 : decode b_TG_isTimer 1 = .ok (.ifCond .lt 13, 3) := by decide +kernel
theorem d_TG_isTimer_4 : decode b_TG_isTimer 4 = .ok (.iload_n 0, 1) := by decide +kernel
theorem d_TG_isTimer_5 : decode b_TG_isTimer 5 = .ok (.bipush 8, 2) := by decide +kernel
theorem d_TG_isTimer_7 : decode b_TG_isTimer 7 = .ok (.if_icmp .ge 7, 3) := by decide +kernel
theorem d_TG_isTimer_10 : decode b_TG_isTimer 10 = .ok (.iconst 1, 1) := by decide +kernel
theorem d_TG_isTimer_11 : decode b_TG_isTimer 11 = .ok (.goto 4, 3) := by decide +kernel
theorem d_TG_isTimer_14 : decode b_TG_isTimer 14 = .ok (.iconst 0, 1) := by decide +kernel
theorem d_TG_isTimer_15 : decode b_TG_isTimer 15 = .ok (.ireturn, 1) := by decide +kernel
theorem d_TG_turn_0 : decode b_TG_turn 0 = .ok (.iload_n 1, 1) := by decide +kernel
theorem d_TG_turn_1 : decode b_TG_turn 1 = .ok (.invokestatic 30, 3) := by decide +kernel
theorem d_TG_turn_4 : decode b_TG_turn 4 = .ok (.ifCond .eq 16, 3) := by decide +kernel
theorem d_TG_turn_7 : decode b_TG_turn 7 = .ok (.aload_n 0, 1) := by decide +kernel
theorem d_TG_turn_8 : decode b_TG_turn 8 = .ok (.getfield 11, 3) := by decide +kernel
theorem d_TG_turn_11 : decode b_TG_turn 11 = .ok (.iload_n 1, 1) := by decide +kernel
theorem d_TG_turn_12 : decode b_TG_turn 12 = .ok (.aaload, 1) := by decide +kernel
theorem d_TG_turn_13 : decode b_TG_turn 13 = .ok (.getfield 49, 3) := by decide +kernel
theorem d_TG_turn_16 : decode b_TG_turn 16 = .ok (.iload_n 2, 1) := by decide +kernel
theorem d_TG_turn_17 : decode b_TG_turn 17 = .ok (.if_icmp .ne 5, 3) := by decide +kernel
theorem d_TG_turn_20 : decode b_TG_turn 20 = .ok (.iconst 0, 1) := by decide +kernel
theorem d_TG_turn_21 : decode b_TG_turn 21 = .ok (.ireturn, 1) := by decide +kernel
theorem d_TG_turn_22 : decode b_TG_turn 22 = .ok (.aload_n 0, 1) := by decide +kernel
theorem d_TG_turn_23 : decode b_TG_turn 23 = .ok (.getfield 11, 3) := by decide +kernel
theorem d_TG_turn_26 : decode b_TG_turn 26 = .ok (.iload_n 1, 1) := by decide +kernel
theorem d_TG_turn_27 : decode b_TG_turn 27 = .ok (.aaload, 1) := by decide +kernel
theorem d_TG_turn_28 : decode b_TG_turn 28 = .ok (.iload_n 2, 1) := by decide +kernel
theorem d_TG_turn_29 : decode b_TG_turn 29 = .ok (.putfield 49, 3) := by decide +kernel
theorem d_TG_turn_32 : decode b_TG_turn 32 = .ok (.iconst 1, 1) := by decide +kernel
theorem d_TG_turn_33 : decode b_TG_turn 33 = .ok (.ireturn, 1) := by decide +kernel
theorem d_TG_gate_0 : decode b_TG_gate 0 = .ok (.iload_n 1, 1) := by decide +kernel
theorem d_TG_gate_1 : decode b_TG_gate 1 = .ok (.invokestatic 52, 3) := by decide +kernel
theorem d_TG_gate_4 : decode b_TG_gate 4 = .ok (.ifCond .eq 26, 3) := by decide +kernel
theorem d_TG_gate_7 : decode b_TG_gate 7 = .ok (.iload_n 2, 1) := by decide +kernel
theorem d_TG_gate_8 : decode b_TG_gate 8 = .ok (.ifCond .lt 22, 3) := by decide +kernel
theorem d_TG_gate_11 : decode b_TG_gate 11 = .ok (.iload_n 2, 1) := by decide +kernel
theorem d_TG_gate_12 : decode b_TG_gate 12 = .ok (.sipush 255, 3) := by decide +kernel
theorem d_TG_gate_15 : decode b_TG_gate 15 = .ok (.if_icmp .gt 15, 3) := by decide +kernel
theorem d_TG_gate_18 : decode b_TG_gate 18 = .ok (.iload_n 3, 1) := by decide +kernel
theorem d_TG_gate_19 : decode b_TG_gate 19 = .ok (.iconst 1, 1) := by decide +kernel
theorem d_TG_gate_20 : decode b_TG_gate 20 = .ok (.if_icmp .lt 10, 3) := by decide +kernel
theorem d_TG_gate_23 : decode b_TG_gate 23 = .ok (.iload_n 3, 1) := by decide +kernel
theorem d_TG_gate_24 : decode b_TG_gate 24 = .ok (.sipush 1000, 3) := by decide +kernel
theorem d_TG_gate_27 : decode b_TG_gate 27 = .ok (.if_icmp .le 5, 3) := by decide +kernel
theorem d_TG_gate_30 : decode b_TG_gate 30 = .ok (.iconst 0, 1) := by decide +kernel
theorem d_TG_gate_31 : decode b_TG_gate 31 = .ok (.ireturn, 1) := by decide +kernel
theorem d_TG_gate_32 : decode b_TG_gate 32 = .ok (.aload_n 0, 1) := by decide +kernel
theorem d_TG_gate_33 : decode b_TG_gate 33 = .ok (.getfield 17, 3) := by decide +kernel
theorem d_TG_gate_36 : decode b_TG_gate 36 = .ok (.iload_n 1, 1) := by decide +kernel
theorem d_TG_gate_37 : decode b_TG_gate 37 = .ok (.aaload, 1) := by decide +kernel
theorem d_TG_gate_38 : decode b_TG_gate 38 = .ok (.iload_n 2, 1) := by decide +kernel
theorem d_TG_gate_39 : decode b_TG_gate 39 = .ok (.putfield 55, 3) := by decide +kernel
theorem d_TG_gate_42 : decode b_TG_gate 42 = .ok (.aload_n 0, 1) := by decide +kernel
theorem d_TG_gate_43 : decode b_TG_gate 43 = .ok (.getfield 17, 3) := by decide +kernel
theorem d_TG_gate_46 : decode b_TG_gate 46 = .ok (.iload_n 1, 1) := by decide +kernel
theorem d_TG_gate_47 : decode b_TG_gate 47 = .ok (.aaload, 1) := by decide +kernel
theorem d_TG_gate_48 : decode b_TG_gate 48 = .ok (.iload_n 3, 1) := by decide +kernel
theorem d_TG_gate_49 : decode b_TG_gate 49 = .ok (.putfield 58, 3) := by decide +kernel
theorem d_TG_gate_52 : decode b_TG_gate 52 = .ok (.iconst 1, 1) := by decide +kernel
theorem d_TG_gate_53 : decode b_TG_gate 53 = .ok (.ireturn, 1) := by decide +kernel
theorem d_TG_isGate_0 : decode b_TG_isGate 0 = .ok (.iload_n 0, 1) := by decide +kernel
theorem d_TG_isGate_1 : decode b_TG_isGate 1 = .ok (.ifCond .lt 12, 3) := by decide +kernel
theorem d_TG_isGate_4 : decode b_TG_isGate 4 = .ok (.iload_n 0, 1) := by decide +kernel
theorem d_TG_isGate_5 : decode b_TG_isGate 5 = .ok (.iconst 4, 1) := by decide +kernel
theorem d_TG_isGate_6 : decode b_TG_isGate 6 = .ok (.if_icmp .ge 7, 3) := by decide +kernel
theorem d_TG_isGate_9 : decode b_TG_isGate 9 = .ok (.iconst 1, 1) := by decide +kernel
theorem d_TG_isGate_10 : decode b_TG_isGate 10 = .ok (.goto 4, 3) := by decide +kernel
theorem d_TG_isGate_13 : decode b_TG_isGate 13 = .ok (.iconst 0, 1) := by decide +kernel
theorem d_TG_isGate_14 : decode b_TG_isGate 14 = .ok (.ireturn, 1) := by decide +kernel
theorem d_TG_clear_0 : decode b_TG_clear 0 = .ok (.iload_n 1, 1) := by decide +kernel
theorem d_TG_clear_1 : decode b_TG_clear 1 = .ok (.ifCond .lt 10, 3) := by decide +kernel
theorem d_TG_clear_4 : decode b_TG_clear 4 = .ok (.iload_n 1, 1) := by decide +kernel
theorem d_TG_clear_5 : decode b_TG_clear 5 = .ok (.sipush 255, 3) := by decide +kernel
theorem d_TG_clear_8 : decode b_TG_clear 8 = .ok (.if_icmp .le 5, 3) := by decide +kernel
theorem d_TG_clear_11 : decode b_TG_clear 11 = .ok (.iconst (-1), 1) := by decide +kernel
theorem d_TG_clear_12 : decode b_TG_clear 12 = .ok (.ireturn, 1) := by decide +kernel
theorem d_TG_clear_13 : decode b_TG_clear 13 = .ok (.aload_n 0, 1) := by decide +kernel
theorem d_TG_clear_14 : decode b_TG_clear 14 = .ok (.getfield 61, 3) := by decide +kernel
theorem d_TG_clear_17 : decode b_TG_clear 17 = .ok (.iload_n 1, 1) := by decide +kernel
theorem d_TG_clear_18 : decode b_TG_clear 18 = .ok (.iand, 1) := by decide +kernel
theorem d_TG_clear_19 : decode b_TG_clear 19 = .ok (.istore_n 2, 1) := by decide +kernel
theorem d_TG_clear_20 : decode b_TG_clear 20 = .ok (.aload_n 0, 1) := by decide +kernel
theorem d_TG_clear_21 : decode b_TG_clear 21 = .ok (.dup, 1) := by decide +kernel
theorem d_TG_clear_22 : decode b_TG_clear 22 = .ok (.getfield 61, 3) := by decide +kernel
theorem d_TG_clear_25 : decode b_TG_clear 25 = .ok (.iload_n 1, 1) := by decide +kernel
theorem d_TG_clear_26 : decode b_TG_clear 26 = .ok (.iconst (-1), 1) := by decide +kernel
theorem d_TG_clear_27 : decode b_TG_clear 27 = .ok (.ixor, 1) := by decide +kernel
theorem d_TG_clear_28 : decode b_TG_clear 28 = .ok (.iand, 1) := by decide +kernel
theorem d_TG_clear_29 : decode b_TG_clear 29 = .ok (.putfield 61, 3) := by decide +kernel
theorem d_TG_clear_32 : decode b_TG_clear 32 = .ok (.iconst 0, 1) := by decide +kernel
theorem d_TG_clear_33 : decode b_TG_clear 33 = .ok (.istore_n 3, 1) := by decide +kernel
theorem d_TG_clear_34 : decode b_TG_clear 34 = .ok (.iload_n 3, 1) := by decide +kernel
theorem d_TG_clear_35 : decode b_TG_clear 35 = .ok (.bipush 8, 2) := by decide +kernel
theorem d_TG_clear_37 : decode b_TG_clear 37 = .ok (.if_icmp .ge 28, 3) := by decide +kernel
theorem d_TG_clear_40 : decode b_TG_clear 40 = .ok (.aload_n 0, 1) := by decide +kernel
theorem d_TG_clear_41 : decode b_TG_clear 41 = .ok (.getfield 11, 3) := by decide +kernel
theorem d_TG_clear_44 : decode b_TG_clear 44 = .ok (.iload_n 3, 1) := by decide +kernel
theorem d_TG_clear_45 : decode b_TG_clear 45 = .ok (.aaload, 1) := by decide +kernel
theorem d_TG_clear_46 : decode b_TG_clear 46 = .ok (.dup, 1) := by decide +kernel
theorem d_TG_clear_47 : decode b_TG_clear 47 = .ok (.getfield 64, 3) := by decide +kernel
theorem d_TG_clear_50 : decode b_TG_clear 50 = .ok (.iload_n 2, 1) := by decide +kernel
theorem d_TG_clear_51 : decode b_TG_clear 51 = .ok (.iload_n 3, 1) := by decide +kernel
theorem d_TG_clear_52 : decode b_TG_clear 52 = .ok (.ishr, 1) := by decide +kernel
theorem d_TG_clear_53 : decode b_TG_clear 53 = .ok (.iconst 1, 1) := by decide +kernel
theorem d_TG_clear_54 : decode b_TG_clear 54 = .ok (.iand, 1) := by decide +kernel
theorem d_TG_clear_55 : decode b_TG_clear 55 = .ok (.iadd, 1) := by decide +kernel
theorem d_TG_clear_56 : decode b_TG_clear 56 = .ok (.putfield 64, 3) := by decide +kernel
theorem d_TG_clear_59 : decode b_TG_clear 59 = .ok (.iinc 3 1, 3) := by decide +kernel
theorem d_TG_clear_62 : decode b_TG_clear 62 = .ok (.goto (-28), 3) := by decide +kernel
theorem d_TG_clear_65 : decode b_TG_clear 65 = .ok (.iload_n 2, 1) := by decide +kernel
theorem d_TG_clear_66 : decode b_TG_clear 66 = .ok (.ireturn, 1) := by decide +kernel
theorem d_TG_advance_0 : decode b_TG_advance 0 = .ok (.iload_n 1, 1) := by decide +kernel
theorem d_TG_advance_1 : decode b_TG_advance 1 = .ok (.ifCond .lt 10, 3) := by decide +kernel
theorem d_TG_advance_4 : decode b_TG_advance 4 = .ok (.iload_n 1, 1) := by decide +kernel
theorem d_TG_advance_5 : decode b_TG_advance 5 = .ok (.sipush 20000, 3) := by decide +kernel
theorem d_TG_advance_8 : decode b_TG_advance 8 = .ok (.if_icmp .le 5, 3) := by decide +kernel
theorem d_TG_advance_11 : decode b_TG_advance 11 = .ok (.iconst (-1), 1) := by decide +kernel
theorem d_TG_advance_12 : decode b_TG_advance 12 = .ok (.ireturn, 1) := by decide +kernel
theorem d_TG_advance_13 : decode b_TG_advance 13 = .ok (.iload_n 1, 1) := by decide +kernel
theorem d_TG_advance_14 : decode b_TG_advance 14 = .ok (.istore_n 2, 1) := by decide +kernel
theorem d_TG_advance_15 : decode b_TG_advance 15 = .ok (.iconst 0, 1) := by decide +kernel
theorem d_TG_advance_16 : decode b_TG_advance 16 = .ok (.istore_n 3, 1) := by decide +kernel
theorem d_TG_advance_17 : decode b_TG_advance 17 = .ok (.iload_n 2, 1) := by decide +kernel
theorem d_TG_advance_18 : decode b_TG_advance 18 = .ok (.ifCond .le 30, 3) := by decide +kernel
theorem d_TG_advance_21 : decode b_TG_advance 21 = .ok (.iload_n 2, 1) := by decide +kernel
theorem d_TG_advance_22 : decode b_TG_advance 22 = .ok (.aload_n 0, 1) := by decide +kernel
theorem d_TG_advance_23 : decode b_TG_advance 23 = .ok (.invokevirtual 114, 3) := by decide +kernel
theorem d_TG_advance_26 : decode b_TG_advance 26 = .ok (.invokestatic 70, 3) := by decide +kernel
theorem d_TG_advance_29 : decode b_TG_advance 29 = .ok (.istore 4, 2) := by decide +kernel
theorem d_TG_advance_31 : decode b_TG_advance 31 = .ok (.iload_n 3, 1) := by decide +kernel
theorem d_TG_advance_32 : decode b_TG_advance 32 = .ok (.aload_n 0, 1) := by decide +kernel
theorem d_TG_advance_33 : decode b_TG_advance 33 = .ok (.iload 4, 2) := by decide +kernel
theorem d_TG_advance_35 : decode b_TG_advance 35 = .ok (.invokevirtual 118, 3) := by decide +kernel
theorem d_TG_advance_38 : decode b_TG_advance 38 = .ok (.iadd, 1) := by decide +kernel
theorem d_TG_advance_39 : decode b_TG_advance 39 = .ok (.istore_n 3, 1) := by decide +kernel
theorem d_TG_advance_40 : decode b_TG_advance 40 = .ok (.iload_n 2, 1) := by decide +kernel
theorem d_TG_advance_41 : decode b_TG_advance 41 = .ok (.iload 4, 2) := by decide +kernel
theorem d_TG_advance_43 : decode b_TG_advance 43 = .ok (.isub, 1) := by decide +kernel
theorem d_TG_advance_44 : decode b_TG_advance 44 = .ok (.istore_n 2, 1) := by decide +kernel
theorem d_TG_advance_45 : decode b_TG_advance 45 = .ok (.goto (-28), 3) := by decide +kernel
theorem d_TG_advance_48 : decode b_TG_advance 48 = .ok (.iload_n 3, 1) := by decide +kernel
theorem d_TG_advance_49 : decode b_TG_advance 49 = .ok (.ireturn, 1) := by decide +kernel
theorem d_TG_quiet_0 : decode b_TG_quiet 0 = .ok (.ldc 69, 2) := by decide +kernel
theorem d_TG_quiet_2 : decode b_TG_quiet 2 = .ok (.istore_n 1, 1) := by decide +kernel
theorem d_TG_quiet_3 : decode b_TG_quiet 3 = .ok (.aload_n 0, 1) := by decide +kernel
theorem d_TG_quiet_4 : decode b_TG_quiet 4 = .ok (.getfield 11, 3) := by decide +kernel
theorem d_TG_quiet_7 : decode b_TG_quiet 7 = .ok (.astore_n 2, 1) := by decide +kernel
theorem d_TG_quiet_8 : decode b_TG_quiet 8 = .ok (.aload_n 2, 1) := by decide +kernel
theorem d_TG_quiet_9 : decode b_TG_quiet 9 = .ok (.arraylength, 1) := by decide +kernel
theorem d_TG_quiet_10 : decode b_TG_quiet 10 = .ok (.istore_n 3, 1) := by decide +kernel
theorem d_TG_quiet_11 : decode b_TG_quiet 11 = .ok (.iconst 0, 1) := by decide +kernel
theorem d_TG_quiet_12 : decode b_TG_quiet 12 = .ok (.istore 4, 2) := by decide +kernel
theorem d_TG_quiet_14 : decode b_TG_quiet 14 = .ok (.iload 4, 2) := by decide +kernel
theorem d_TG_quiet_16 : decode b_TG_quiet 16 = .ok (.iload_n 3, 1) := by decide +kernel
theorem d_TG_quiet_17 : decode b_TG_quiet 17 = .ok (.if_icmp .ge 45, 3) := by decide +kernel
theorem d_TG_quiet_20 : decode b_TG_quiet 20 = .ok (.aload_n 2, 1) := by decide +kernel
theorem d_TG_quiet_21 : decode b_TG_quiet 21 = .ok (.iload 4, 2) := by decide +kernel
theorem d_TG_quiet_23 : decode b_TG_quiet 23 = .ok (.aaload, 1) := by decide +kernel
theorem d_TG_quiet_24 : decode b_TG_quiet 24 = .ok (.astore 5, 2) := by decide +kernel
theorem d_TG_quiet_26 : decode b_TG_quiet 26 = .ok (.aload 5, 2) := by decide +kernel
theorem d_TG_quiet_28 : decode b_TG_quiet 28 = .ok (.getfield 49, 3) := by decide +kernel
theorem d_TG_quiet_31 : decode b_TG_quiet 31 = .ok (.ifCond .eq 23, 3) := by decide +kernel
theorem d_TG_quiet_34 : decode b_TG_quiet 34 = .ok (.aload 5, 2) := by decide +kernel
theorem d_TG_quiet_36 : decode b_TG_quiet 36 = .ok (.getfield 35, 3) := by decide +kernel
theorem d_TG_quiet_39 : decode b_TG_quiet 39 = .ok (.ifCond .ne 15, 3) := by decide +kernel
theorem d_TG_quiet_42 : decode b_TG_quiet 42 = .ok (.iload_n 1, 1) := by decide +kernel
theorem d_TG_quiet_43 : decode b_TG_quiet 43 = .ok (.aload 5, 2) := by decide +kernel
theorem d_TG_quiet_45 : decode b_TG_quiet 45 = .ok (.getfield 42, 3) := by decide +kernel
theorem d_TG_quiet_48 : decode b_TG_quiet 48 = .ok (.invokestatic 70, 3) := by decide +kernel
theorem d_TG_quiet_51 : decode b_TG_quiet 51 = .ok (.goto 4, 3) := by decide +kernel
theorem d_TG_quiet_54 : decode b_TG_quiet 54 = .ok (.iload_n 1, 1) := by decide +kernel
theorem d_TG_quiet_55 : decode b_TG_quiet 55 = .ok (.istore_n 1, 1) := by decide +kernel
theorem d_TG_quiet_56 : decode b_TG_quiet 56 = .ok (.iinc 4 1, 3) := by decide +kernel
theorem d_TG_quiet_59 : decode b_TG_quiet 59 = .ok (.goto (-45), 3) := by decide +kernel
theorem d_TG_quiet_62 : decode b_TG_quiet 62 = .ok (.aload_n 0, 1) := by decide +kernel
theorem d_TG_quiet_63 : decode b_TG_quiet 63 = .ok (.getfield 17, 3) := by decide +kernel
theorem d_TG_quiet_66 : decode b_TG_quiet 66 = .ok (.astore_n 2, 1) := by decide +kernel
theorem d_TG_quiet_67 : decode b_TG_quiet 67 = .ok (.aload_n 2, 1) := by decide +kernel
theorem d_TG_quiet_68 : decode b_TG_quiet 68 = .ok (.arraylength, 1) := by decide +kernel
theorem d_TG_quiet_69 : decode b_TG_quiet 69 = .ok (.istore_n 3, 1) := by decide +kernel
theorem d_TG_quiet_70 : decode b_TG_quiet 70 = .ok (.iconst 0, 1) := by decide +kernel
theorem d_TG_quiet_71 : decode b_TG_quiet 71 = .ok (.istore 4, 2) := by decide +kernel
theorem d_TG_quiet_73 : decode b_TG_quiet 73 = .ok (.iload 4, 2) := by decide +kernel
theorem d_TG_quiet_75 : decode b_TG_quiet 75 = .ok (.iload_n 3, 1) := by decide +kernel
theorem d_TG_quiet_76 : decode b_TG_quiet 76 = .ok (.if_icmp .ge 50, 3) := by decide +kernel
theorem d_TG_quiet_79 : decode b_TG_quiet 79 = .ok (.aload_n 2, 1) := by decide +kernel
theorem d_TG_quiet_80 : decode b_TG_quiet 80 = .ok (.iload 4, 2) := by decide +kernel
theorem d_TG_quiet_82 : decode b_TG_quiet 82 = .ok (.aaload, 1) := by decide +kernel
theorem d_TG_quiet_83 : decode b_TG_quiet 83 = .ok (.astore 5, 2) := by decide +kernel
theorem d_TG_quiet_85 : decode b_TG_quiet 85 = .ok (.aload 5, 2) := by decide +kernel
theorem d_TG_quiet_87 : decode b_TG_quiet 87 = .ok (.getfield 76, 3) := by decide +kernel
theorem d_TG_quiet_90 : decode b_TG_quiet 90 = .ok (.ifCond .le 15, 3) := by decide +kernel
theorem d_TG_quiet_93 : decode b_TG_quiet 93 = .ok (.iload_n 1, 1) := by decide +kernel
theorem d_TG_quiet_94 : decode b_TG_quiet 94 = .ok (.aload 5, 2) := by decide +kernel
theorem d_TG_quiet_96 : decode b_TG_quiet 96 = .ok (.getfield 76, 3) := by decide +kernel
theorem d_TG_quiet_99 : decode b_TG_quiet 99 = .ok (.invokestatic 70, 3) := by decide +kernel
theorem d_TG_quiet_102 : decode b_TG_quiet 102 = .ok (.goto 17, 3) := by decide +kernel
theorem d_TG_quiet_105 : decode b_TG_quiet 105 = .ok (.aload_n 0, 1) := by decide +kernel
theorem d_TG_quiet_106 : decode b_TG_quiet 106 = .ok (.aload 5, 2) := by decide +kernel
theorem d_TG_quiet_108 : decode b_TG_quiet 108 = .ok (.invokevirtual 79, 3) := by decide +kernel
theorem d_TG_quiet_111 : decode b_TG_quiet 111 = .ok (.ifCond .eq 7, 3) := by decide +kernel
theorem d_TG_quiet_114 : decode b_TG_quiet 114 = .ok (.iconst 1, 1) := by decide +kernel
theorem d_TG_quiet_115 : decode b_TG_quiet 115 = .ok (.goto 4, 3) := by decide +kernel
theorem d_TG_quiet_118 : decode b_TG_quiet 118 = .ok (.iload_n 1, 1) := by decide +kernel
theorem d_TG_quiet_119 : decode b_TG_quiet 119 = .ok (.istore_n 1, 1) := by decide +kernel
theorem d_TG_quiet_120 : decode b_TG_quiet 120 = .ok (.iinc 4 1, 3) := by decide +kernel
theorem d_TG_quiet_123 : decode b_TG_quiet 123 = .ok (.goto (-50), 3) := by decide +kernel
theorem d_TG_quiet_126 : decode b_TG_quiet 126 = .ok (.iload_n 1, 1) := by decide +kernel
theorem d_TG_quiet_127 : decode b_TG_quiet 127 = .ok (.ireturn, 1) := by decide +kernel
theorem d_TG_asks_0 : decode b_TG_asks 0 = .ok (.aload_n 0, 1) := by decide +kernel
theorem d_TG_asks_1 : decode b_TG_asks 1 = .ok (.getfield 61, 3) := by decide +kernel
theorem d_TG_asks_4 : decode b_TG_asks 4 = .ok (.aload_n 1, 1) := by decide +kernel
theorem d_TG_asks_5 : decode b_TG_asks 5 = .ok (.getfield 55, 3) := by decide +kernel
theorem d_TG_asks_8 : decode b_TG_asks 8 = .ok (.iand, 1) := by decide +kernel
theorem d_TG_asks_9 : decode b_TG_asks 9 = .ok (.ifCond .eq 7, 3) := by decide +kernel
theorem d_TG_asks_12 : decode b_TG_asks 12 = .ok (.iconst 1, 1) := by decide +kernel
theorem d_TG_asks_13 : decode b_TG_asks 13 = .ok (.goto 4, 3) := by decide +kernel
theorem d_TG_asks_16 : decode b_TG_asks 16 = .ok (.iconst 0, 1) := by decide +kernel
theorem d_TG_asks_17 : decode b_TG_asks 17 = .ok (.ireturn, 1) := by decide +kernel
theorem d_TG_pass_0 : decode b_TG_pass 0 = .ok (.aload_n 0, 1) := by decide +kernel
theorem d_TG_pass_1 : decode b_TG_pass 1 = .ok (.dup, 1) := by decide +kernel
theorem d_TG_pass_2 : decode b_TG_pass 2 = .ok (.getfield 83, 3) := by decide +kernel
theorem d_TG_pass_5 : decode b_TG_pass 5 = .ok (.iload_n 1, 1) := by decide +kernel
theorem d_TG_pass_6 : decode b_TG_pass 6 = .ok (.iadd, 1) := by decide +kernel
theorem d_TG_pass_7 : decode b_TG_pass 7 = .ok (.putfield 83, 3) := by decide +kernel
theorem d_TG_pass_10 : decode b_TG_pass 10 = .ok (.iconst 0, 1) := by decide +kernel
theorem d_TG_pass_11 : decode b_TG_pass 11 = .ok (.istore_n 2, 1) := by decide +kernel
theorem d_TG_pass_12 : decode b_TG_pass 12 = .ok (.iconst 0, 1) := by decide +kernel
theorem d_TG_pass_13 : decode b_TG_pass 13 = .ok (.istore_n 3, 1) := by decide +kernel
theorem d_TG_pass_14 : decode b_TG_pass 14 = .ok (.iload_n 3, 1) := by decide +kernel
theorem d_TG_pass_15 : decode b_TG_pass 15 = .ok (.bipush 8, 2) := by decide +kernel
theorem d_TG_pass_17 : decode b_TG_pass 17 = .ok (.if_icmp .ge 87, 3) := by decide +kernel
theorem d_TG_pass_20 : decode b_TG_pass 20 = .ok (.aload_n 0, 1) := by decide +kernel
theorem d_TG_pass_21 : decode b_TG_pass 21 = .ok (.getfield 11, 3) := by decide +kernel
theorem d_TG_pass_24 : decode b_TG_pass 24 = .ok (.iload_n 3, 1) := by decide +kernel
theorem d_TG_pass_25 : decode b_TG_pass 25 = .ok (.aaload, 1) := by decide +kernel
theorem d_TG_pass_26 : decode b_TG_pass 26 = .ok (.astore 4, 2) := by decide +kernel
theorem d_TG_pass_28 : decode b_TG_pass 28 = .ok (.aload 4, 2) := by decide +kernel
theorem d_TG_pass_30 : decode b_TG_pass 30 = .ok (.getfield 35, 3) := by decide +kernel
theorem d_TG_pass_33 : decode b_TG_pass 33 = .ok (.ifCond .ne 12, 3) := by decide +kernel
theorem d_TG_pass_36 : decode b_TG_pass 36 = .ok (.aload 4, 2) := by decide +kernel
theorem d_TG_pass_38 : decode b_TG_pass 38 = .ok (.iload_n 1, 1) := by decide +kernel
theorem d_TG_pass_39 : decode b_TG_pass 39 = .ok (.invokevirtual 86, 3) := by decide +kernel
theorem d_TG_pass_42 : decode b_TG_pass 42 = .ok (.goto 21, 3) := by decide +kernel
theorem d_TG_pass_45 : decode b_TG_pass 45 = .ok (.iload_n 2, 1) := by decide +kernel
theorem d_TG_pass_46 : decode b_TG_pass 46 = .ok (.ifCond .eq 16, 3) := by decide +kernel
theorem d_TG_pass_49 : decode b_TG_pass 49 = .ok (.aload 4, 2) := by decide +kernel
theorem d_TG_pass_51 : decode b_TG_pass 51 = .ok (.iconst 1, 1) := by decide +kernel
theorem d_TG_pass_52 : decode b_TG_pass 52 = .ok (.invokevirtual 86, 3) := by decide +kernel
theorem d_TG_pass_55 : decode b_TG_pass 55 = .ok (.ifCond .eq 7, 3) := by decide +kernel
theorem d_TG_pass_58 : decode b_TG_pass 58 = .ok (.iconst 1, 1) := by decide +kernel
theorem d_TG_pass_59 : decode b_TG_pass 59 = .ok (.goto 4, 3) := by decide +kernel
theorem d_TG_pass_62 : decode b_TG_pass 62 = .ok (.iconst 0, 1) := by decide +kernel
theorem d_TG_pass_63 : decode b_TG_pass 63 = .ok (.istore_n 2, 1) := by decide +kernel
theorem d_TG_pass_64 : decode b_TG_pass 64 = .ok (.iload_n 2, 1) := by decide +kernel
theorem d_TG_pass_65 : decode b_TG_pass 65 = .ok (.ifCond .eq 33, 3) := by decide +kernel
theorem d_TG_pass_68 : decode b_TG_pass 68 = .ok (.aload 4, 2) := by decide +kernel
theorem d_TG_pass_70 : decode b_TG_pass 70 = .ok (.dup, 1) := by decide +kernel
theorem d_TG_pass_71 : decode b_TG_pass 71 = .ok (.getfield 89, 3) := by decide +kernel
theorem d_TG_pass_74 : decode b_TG_pass 74 = .ok (.aload_n 0, 1) := by decide +kernel
theorem d_TG_pass_75 : decode b_TG_pass 75 = .ok (.getfield 61, 3) := by decide +kernel
theorem d_TG_pass_78 : decode b_TG_pass 78 = .ok (.iload_n 3, 1) := by decide +kernel
theorem d_TG_pass_79 : decode b_TG_pass 79 = .ok (.ishr, 1) := by decide +kernel
theorem d_TG_pass_80 : decode b_TG_pass 80 = .ok (.iconst 1, 1) := by decide +kernel
theorem d_TG_pass_81 : decode b_TG_pass 81 = .ok (.iand, 1) := by decide +kernel
theorem d_TG_pass_82 : decode b_TG_pass 82 = .ok (.iadd, 1) := by decide +kernel
theorem d_TG_pass_83 : decode b_TG_pass 83 = .ok (.putfield 89, 3) := by decide +kernel
theorem d_TG_pass_86 : decode b_TG_pass 86 = .ok (.aload_n 0, 1) := by decide +kernel
theorem d_TG_pass_87 : decode b_TG_pass 87 = .ok (.dup, 1) := by decide +kernel
theorem d_TG_pass_88 : decode b_TG_pass 88 = .ok (.getfield 61, 3) := by decide +kernel
theorem d_TG_pass_91 : decode b_TG_pass 91 = .ok (.iconst 1, 1) := by decide +kernel
theorem d_TG_pass_92 : decode b_TG_pass 92 = .ok (.iload_n 3, 1) := by decide +kernel
theorem d_TG_pass_93 : decode b_TG_pass 93 = .ok (.ishl, 1) := by decide +kernel
theorem d_TG_pass_94 : decode b_TG_pass 94 = .ok (.ior, 1) := by decide +kernel
theorem d_TG_pass_95 : decode b_TG_pass 95 = .ok (.putfield 61, 3) := by decide +kernel
theorem d_TG_pass_98 : decode b_TG_pass 98 = .ok (.iinc 3 1, 3) := by decide +kernel
theorem d_TG_pass_101 : decode b_TG_pass 101 = .ok (.goto (-87), 3) := by decide +kernel
theorem d_TG_pass_104 : decode b_TG_pass 104 = .ok (.iconst 0, 1) := by decide +kernel
theorem d_TG_pass_105 : decode b_TG_pass 105 = .ok (.istore_n 3, 1) := by decide +kernel
theorem d_TG_pass_106 : decode b_TG_pass 106 = .ok (.iconst 0, 1) := by decide +kernel
theorem d_TG_pass_107 : decode b_TG_pass 107 = .ok (.istore 4, 2) := by decide +kernel
theorem d_TG_pass_109 : decode b_TG_pass 109 = .ok (.iload 4, 2) := by decide +kernel
theorem d_TG_pass_111 : decode b_TG_pass 111 = .ok (.iconst 4, 1) := by decide +kernel
theorem d_TG_pass_112 : decode b_TG_pass 112 = .ok (.if_icmp .ge 60, 3) := by decide +kernel
theorem d_TG_pass_115 : decode b_TG_pass 115 = .ok (.aload_n 0, 1) := by decide +kernel
theorem d_TG_pass_116 : decode b_TG_pass 116 = .ok (.getfield 17, 3) := by decide +kernel
theorem d_TG_pass_119 : decode b_TG_pass 119 = .ok (.iload 4, 2) := by decide +kernel
theorem d_TG_pass_121 : decode b_TG_pass 121 = .ok (.aaload, 1) := by decide +kernel
theorem d_TG_pass_122 : decode b_TG_pass 122 = .ok (.astore 5, 2) := by decide +kernel
theorem d_TG_pass_124 : decode b_TG_pass 124 = .ok (.aload 5, 2) := by decide +kernel
theorem d_TG_pass_126 : decode b_TG_pass 126 = .ok (.getfield 76, 3) := by decide +kernel
theorem d_TG_pass_129 : decode b_TG_pass 129 = .ok (.ifCond .le 37, 3) := by decide +kernel
theorem d_TG_pass_132 : decode b_TG_pass 132 = .ok (.aload 5, 2) := by decide +kernel
theorem d_TG_pass_134 : decode b_TG_pass 134 = .ok (.dup, 1) := by decide +kernel
theorem d_TG_pass_135 : decode b_TG_pass 135 = .ok (.getfield 76, 3) := by decide +kernel
theorem d_TG_pass_138 : decode b_TG_pass 138 = .ok (.iload_n 1, 1) := by decide +kernel
theorem d_TG_pass_139 : decode b_TG_pass 139 = .ok (.isub, 1) := by decide +kernel
theorem d_TG_pass_140 : decode b_TG_pass 140 = .ok (.putfield 76, 3) := by decide +kernel
theorem d_TG_pass_143 : decode b_TG_pass 143 = .ok (.iload_n 3, 1) := by decide +kernel
theorem d_TG_pass_144 : decode b_TG_pass 144 = .ok (.aload 5, 2) := by decide +kernel
theorem d_TG_pass_146 : decode b_TG_pass 146 = .ok (.getfield 76, 3) := by decide +kernel
theorem d_TG_pass_149 : decode b_TG_pass 149 = .ok (.ifCond .ne 14, 3) := by decide +kernel
theorem d_TG_pass_152 : decode b_TG_pass 152 = .ok (.aload_n 0, 1) := by decide +kernel
theorem d_TG_pass_153 : decode b_TG_pass 153 = .ok (.aload 5, 2) := by decide +kernel
theorem d_TG_pass_155 : decode b_TG_pass 155 = .ok (.iload 4, 2) := by decide +kernel
theorem d_TG_pass_157 : decode b_TG_pass 157 = .ok (.invokevirtual 92, 3) := by decide +kernel
theorem d_TG_pass_160 : decode b_TG_pass 160 = .ok (.goto 4, 3) := by decide +kernel
theorem d_TG_pass_163 : decode b_TG_pass 163 = .ok (.iconst 0, 1) := by decide +kernel
theorem d_TG_pass_164 : decode b_TG_pass 164 = .ok (.iadd, 1) := by decide +kernel
theorem d_TG_pass_165 : decode b_TG_pass 165 = .ok (.istore_n 3, 1) := by decide +kernel
theorem d_TG_pass_166 : decode b_TG_pass 166 = .ok (.iinc 4 1, 3) := by decide +kernel
theorem d_TG_pass_169 : decode b_TG_pass 169 = .ok (.goto (-60), 3) := by decide +kernel
theorem d_TG_pass_172 : decode b_TG_pass 172 = .ok (.aload_n 0, 1) := by decide +kernel
theorem d_TG_pass_173 : decode b_TG_pass 173 = .ok (.getfield 17, 3) := by decide +kernel
theorem d_TG_pass_176 : decode b_TG_pass 176 = .ok (.astore 4, 2) := by decide +kernel
theorem d_TG_pass_178 : decode b_TG_pass 178 = .ok (.aload 4, 2) := by decide +kernel
theorem d_TG_pass_180 : decode b_TG_pass 180 = .ok (.arraylength, 1) := by decide +kernel
theorem d_TG_pass_181 : decode b_TG_pass 181 = .ok (.istore 5, 2) := by decide +kernel
theorem d_TG_pass_183 : decode b_TG_pass 183 = .ok (.iconst 0, 1) := by decide +kernel
theorem d_TG_pass_184 : decode b_TG_pass 184 = .ok (.istore 6, 2) := by decide +kernel
theorem d_TG_pass_186 : decode b_TG_pass 186 = .ok (.iload 6, 2) := by decide +kernel
theorem d_TG_pass_188 : decode b_TG_pass 188 = .ok (.iload 5, 2) := by decide +kernel
theorem d_TG_pass_190 : decode b_TG_pass 190 = .ok (.if_icmp .ge 43, 3) := by decide +kernel
theorem d_TG_pass_193 : decode b_TG_pass 193 = .ok (.aload 4, 2) := by decide +kernel
theorem d_TG_pass_195 : decode b_TG_pass 195 = .ok (.iload 6, 2) := by decide +kernel
theorem d_TG_pass_197 : decode b_TG_pass 197 = .ok (.aaload, 1) := by decide +kernel
theorem d_TG_pass_198 : decode b_TG_pass 198 = .ok (.astore 7, 2) := by decide +kernel
theorem d_TG_pass_200 : decode b_TG_pass 200 = .ok (.aload 7, 2) := by decide +kernel
theorem d_TG_pass_202 : decode b_TG_pass 202 = .ok (.getfield 76, 3) := by decide +kernel
theorem d_TG_pass_205 : decode b_TG_pass 205 = .ok (.ifCond .ne 22, 3) := by decide +kernel
theorem d_TG_pass_208 : decode b_TG_pass 208 = .ok (.aload_n 0, 1) := by decide +kernel
theorem d_TG_pass_209 : decode b_TG_pass 209 = .ok (.aload 7, 2) := by decide +kernel
theorem d_TG_pass_211 : decode b_TG_pass 211 = .ok (.invokevirtual 79, 3) := by decide +kernel
theorem d_TG_pass_214 : decode b_TG_pass 214 = .ok (.ifCond .eq 13, 3) := by decide +kernel
theorem d_TG_pass_217 : decode b_TG_pass 217 = .ok (.aload 7, 2) := by decide +kernel
theorem d_TG_pass_219 : decode b_TG_pass 219 = .ok (.aload 7, 2) := by decide +kernel
theorem d_TG_pass_221 : decode b_TG_pass 221 = .ok (.getfield 58, 3) := by decide +kernel
theorem d_TG_pass_224 : decode b_TG_pass 224 = .ok (.putfield 76, 3) := by decide +kernel
theorem d_TG_pass_227 : decode b_TG_pass 227 = .ok (.iinc 6 1, 3) := by decide +kernel
theorem d_TG_pass_230 : decode b_TG_pass 230 = .ok (.goto (-44), 3) := by decide +kernel
theorem d_TG_pass_233 : decode b_TG_pass 233 = .ok (.iload_n 3, 1) := by decide +kernel
theorem d_TG_pass_234 : decode b_TG_pass 234 = .ok (.ireturn, 1) := by decide +kernel
theorem d_Tm_comes_0 : decode b_Tm_comes 0 = .ok (.aload_n 0, 1) := by decide +kernel
theorem d_Tm_comes_1 : decode b_Tm_comes 1 = .ok (.getfield 16, 3) := by decide +kernel
theorem d_Tm_comes_4 : decode b_Tm_comes 4 = .ok (.ifCond .ne 5, 3) := by decide +kernel
theorem d_Tm_comes_7 : decode b_Tm_comes 7 = .ok (.iconst 0, 1) := by decide +kernel
theorem d_Tm_comes_8 : decode b_Tm_comes 8 = .ok (.ireturn, 1) := by decide +kernel
theorem d_Tm_comes_9 : decode b_Tm_comes 9 = .ok (.aload_n 0, 1) := by decide +kernel
theorem d_Tm_comes_10 : decode b_Tm_comes 10 = .ok (.dup, 1) := by decide +kernel
theorem d_Tm_comes_11 : decode b_Tm_comes 11 = .ok (.getfield 13, 3) := by decide +kernel
theorem d_Tm_comes_14 : decode b_Tm_comes 14 = .ok (.iload_n 1, 1) := by decide +kernel
theorem d_Tm_comes_15 : decode b_Tm_comes 15 = .ok (.isub, 1) := by decide +kernel
theorem d_Tm_comes_16 : decode b_Tm_comes 16 = .ok (.putfield 13, 3) := by decide +kernel
theorem d_Tm_comes_19 : decode b_Tm_comes 19 = .ok (.aload_n 0, 1) := by decide +kernel
theorem d_Tm_comes_20 : decode b_Tm_comes 20 = .ok (.getfield 13, 3) := by decide +kernel
theorem d_Tm_comes_23 : decode b_Tm_comes 23 = .ok (.ifCond .le 5, 3) := by decide +kernel
theorem d_Tm_comes_26 : decode b_Tm_comes 26 = .ok (.iconst 0, 1) := by decide +kernel
theorem d_Tm_comes_27 : decode b_Tm_comes 27 = .ok (.ireturn, 1) := by decide +kernel
theorem d_Tm_comes_28 : decode b_Tm_comes 28 = .ok (.aload_n 0, 1) := by decide +kernel
theorem d_Tm_comes_29 : decode b_Tm_comes 29 = .ok (.aload_n 0, 1) := by decide +kernel
theorem d_Tm_comes_30 : decode b_Tm_comes 30 = .ok (.getfield 7, 3) := by decide +kernel
theorem d_Tm_comes_33 : decode b_Tm_comes 33 = .ok (.putfield 13, 3) := by decide +kernel
theorem d_Tm_comes_36 : decode b_Tm_comes 36 = .ok (.aload_n 0, 1) := by decide +kernel
theorem d_Tm_comes_37 : decode b_Tm_comes 37 = .ok (.aload_n 0, 1) := by decide +kernel
theorem d_Tm_comes_38 : decode b_Tm_comes 38 = .ok (.getfield 20, 3) := by decide +kernel
theorem d_Tm_comes_41 : decode b_Tm_comes 41 = .ok (.ifCond .ne 7, 3) := by decide +kernel
theorem d_Tm_comes_44 : decode b_Tm_comes 44 = .ok (.iconst 1, 1) := by decide +kernel
theorem d_Tm_comes_45 : decode b_Tm_comes 45 = .ok (.goto 4, 3) := by decide +kernel
theorem d_Tm_comes_48 : decode b_Tm_comes 48 = .ok (.iconst 0, 1) := by decide +kernel
theorem d_Tm_comes_49 : decode b_Tm_comes 49 = .ok (.putfield 16, 3) := by decide +kernel
theorem d_Tm_comes_52 : decode b_Tm_comes 52 = .ok (.aload_n 0, 1) := by decide +kernel
theorem d_Tm_comes_53 : decode b_Tm_comes 53 = .ok (.dup, 1) := by decide +kernel
theorem d_Tm_comes_54 : decode b_Tm_comes 54 = .ok (.getfield 23, 3) := by decide +kernel
theorem d_Tm_comes_57 : decode b_Tm_comes 57 = .ok (.iconst 1, 1) := by decide +kernel
theorem d_Tm_comes_58 : decode b_Tm_comes 58 = .ok (.iadd, 1) := by decide +kernel
theorem d_Tm_comes_59 : decode b_Tm_comes 59 = .ok (.putfield 23, 3) := by decide +kernel
theorem d_Tm_comes_62 : decode b_Tm_comes 62 = .ok (.iconst 1, 1) := by decide +kernel
theorem d_Tm_comes_63 : decode b_Tm_comes 63 = .ok (.ireturn, 1) := by decide +kernel
theorem d_TG_serve_0 : decode b_TG_serve 0 = .ok (.aload_n 0, 1) := by decide +kernel
theorem d_TG_serve_1 : decode b_TG_serve 1 = .ok (.getfield 61, 3) := by decide +kernel
theorem d_TG_serve_4 : decode b_TG_serve 4 = .ok (.aload_n 1, 1) := by decide +kernel
theorem d_TG_serve_5 : decode b_TG_serve 5 = .ok (.getfield 55, 3) := by decide +kernel
theorem d_TG_serve_8 : decode b_TG_serve 8 = .ok (.iand, 1) := by decide +kernel
theorem d_TG_serve_9 : decode b_TG_serve 9 = .ok (.istore_n 3, 1) := by decide +kernel
theorem d_TG_serve_10 : decode b_TG_serve 10 = .ok (.iload_n 3, 1) := by decide +kernel
theorem d_TG_serve_11 : decode b_TG_serve 11 = .ok (.ifCond .ne 15, 3) := by decide +kernel
theorem d_TG_serve_14 : decode b_TG_serve 14 = .ok (.aload_n 1, 1) := by decide +kernel
theorem d_TG_serve_15 : decode b_TG_serve 15 = .ok (.dup, 1) := by decide +kernel
theorem d_TG_serve_16 : decode b_TG_serve 16 = .ok (.getfield 96, 3) := by decide +kernel
theorem d_TG_serve_19 : decode b_TG_serve 19 = .ok (.iconst 1, 1) := by decide +kernel
theorem d_TG_serve_20 : decode b_TG_serve 20 = .ok (.iadd, 1) := by decide +kernel
theorem d_TG_serve_21 : decode b_TG_serve 21 = .ok (.putfield 96, 3) := by decide +kernel
theorem d_TG_serve_24 : decode b_TG_serve 24 = .ok (.iconst 0, 1) := by decide +kernel
theorem d_TG_serve_25 : decode b_TG_serve 25 = .ok (.ireturn, 1) := by decide +kernel
theorem d_TG_serve_26 : decode b_TG_serve 26 = .ok (.iload_n 3, 1) := by decide +kernel
theorem d_TG_serve_27 : decode b_TG_serve 27 = .ok (.invokestatic 99, 3) := by decide +kernel
theorem d_TG_serve_30 : decode b_TG_serve 30 = .ok (.istore 4, 2) := by decide +kernel
theorem d_TG_serve_32 : decode b_TG_serve 32 = .ok (.aload_n 0, 1) := by decide +kernel
theorem d_TG_serve_33 : decode b_TG_serve 33 = .ok (.dup, 1) := by decide +kernel
theorem d_TG_serve_34 : decode b_TG_serve 34 = .ok (.getfield 61, 3) := by decide +kernel
theorem d_TG_serve_37 : decode b_TG_serve 37 = .ok (.iconst 1, 1) := by decide +kernel
theorem d_TG_serve_38 : decode b_TG_serve 38 = .ok (.iload 4, 2) := by decide +kernel
theorem d_TG_serve_40 : decode b_TG_serve 40 = .ok (.ishl, 1) := by decide +kernel
theorem d_TG_serve_41 : decode b_TG_serve 41 = .ok (.iconst (-1), 1) := by decide +kernel
theorem d_TG_serve_42 : decode b_TG_serve 42 = .ok (.ixor, 1) := by decide +kernel
theorem d_TG_serve_43 : decode b_TG_serve 43 = .ok (.iand, 1) := by decide +kernel
theorem d_TG_serve_44 : decode b_TG_serve 44 = .ok (.putfield 61, 3) := by decide +kernel
theorem d_TG_serve_47 : decode b_TG_serve 47 = .ok (.aload_n 0, 1) := by decide +kernel
theorem d_TG_serve_48 : decode b_TG_serve 48 = .ok (.getfield 11, 3) := by decide +kernel
theorem d_TG_serve_51 : decode b_TG_serve 51 = .ok (.iload 4, 2) := by decide +kernel
theorem d_TG_serve_53 : decode b_TG_serve 53 = .ok (.aaload, 1) := by decide +kernel
theorem d_TG_serve_54 : decode b_TG_serve 54 = .ok (.dup, 1) := by decide +kernel
theorem d_TG_serve_55 : decode b_TG_serve 55 = .ok (.getfield 103, 3) := by decide +kernel
theorem d_TG_serve_58 : decode b_TG_serve 58 = .ok (.iconst 1, 1) := by decide +kernel
theorem d_TG_serve_59 : decode b_TG_serve 59 = .ok (.iadd, 1) := by decide +kernel
theorem d_TG_serve_60 : decode b_TG_serve 60 = .ok (.putfield 103, 3) := by decide +kernel
theorem d_TG_serve_63 : decode b_TG_serve 63 = .ok (.aload_n 1, 1) := by decide +kernel
theorem d_TG_serve_64 : decode b_TG_serve 64 = .ok (.dup, 1) := by decide +kernel
theorem d_TG_serve_65 : decode b_TG_serve 65 = .ok (.getfield 106, 3) := by decide +kernel
theorem d_TG_serve_68 : decode b_TG_serve 68 = .ok (.iconst 1, 1) := by decide +kernel
theorem d_TG_serve_69 : decode b_TG_serve 69 = .ok (.iadd, 1) := by decide +kernel
theorem d_TG_serve_70 : decode b_TG_serve 70 = .ok (.putfield 106, 3) := by decide +kernel
theorem d_TG_serve_73 : decode b_TG_serve 73 = .ok (.aload_n 1, 1) := by decide +kernel
theorem d_TG_serve_74 : decode b_TG_serve 74 = .ok (.aload_n 0, 1) := by decide +kernel
theorem d_TG_serve_75 : decode b_TG_serve 75 = .ok (.getfield 83, 3) := by decide +kernel
theorem d_TG_serve_78 : decode b_TG_serve 78 = .ok (.putfield 107, 3) := by decide +kernel
theorem d_TG_serve_81 : decode b_TG_serve 81 = .ok (.aload_n 0, 1) := by decide +kernel
theorem d_TG_serve_82 : decode b_TG_serve 82 = .ok (.getfield 24, 3) := by decide +kernel
theorem d_TG_serve_85 : decode b_TG_serve 85 = .ok (.iload 4, 2) := by decide +kernel
theorem d_TG_serve_87 : decode b_TG_serve 87 = .ok (.iload_n 2, 1) := by decide +kernel
theorem d_TG_serve_88 : decode b_TG_serve 88 = .ok (.aload_n 0, 1) := by decide +kernel
theorem d_TG_serve_89 : decode b_TG_serve 89 = .ok (.getfield 83, 3) := by decide +kernel
theorem d_TG_serve_92 : decode b_TG_serve 92 = .ok (.invokevirtual 110, 3) := by decide +kernel
theorem d_TG_serve_95 : decode b_TG_serve 95 = .ok (.iconst 1, 1) := by decide +kernel
theorem d_TG_serve_96 : decode b_TG_serve 96 = .ok (.ireturn, 1) := by decide +kernel
theorem d_Itg_ntz_0 : decode b_Itg_ntz 0 = .ok (.iload_n 0, 1) := by decide +kernel
theorem d_Itg_ntz_1 : decode b_Itg_ntz 1 = .ok (.iconst (-1), 1) := by decide +kernel
theorem d_Itg_ntz_2 : decode b_Itg_ntz 2 = .ok (.ixor, 1) := by decide +kernel
theorem d_Itg_ntz_3 : decode b_Itg_ntz 3 = .ok (.iload_n 0, 1) := by decide +kernel
theorem d_Itg_ntz_4 : decode b_Itg_ntz 4 = .ok (.iconst 1, 1) := by decide +kernel
theorem d_Itg_ntz_5 : decode b_Itg_ntz 5 = .ok (.isub, 1) := by decide +kernel
theorem d_Itg_ntz_6 : decode b_Itg_ntz 6 = .ok (.iand, 1) := by decide +kernel
theorem d_Itg_ntz_7 : decode b_Itg_ntz 7 = .ok (.istore_n 0, 1) := by decide +kernel
theorem d_Itg_ntz_8 : decode b_Itg_ntz 8 = .ok (.iload_n 0, 1) := by decide +kernel
theorem d_Itg_ntz_9 : decode b_Itg_ntz 9 = .ok (.ifCond .gt 8, 3) := by decide +kernel
theorem d_Itg_ntz_12 : decode b_Itg_ntz 12 = .ok (.iload_n 0, 1) := by decide +kernel
theorem d_Itg_ntz_13 : decode b_Itg_ntz 13 = .ok (.bipush 32, 2) := by decide +kernel
theorem d_Itg_ntz_15 : decode b_Itg_ntz 15 = .ok (.iand, 1) := by decide +kernel
theorem d_Itg_ntz_16 : decode b_Itg_ntz 16 = .ok (.ireturn, 1) := by decide +kernel
theorem d_Itg_ntz_17 : decode b_Itg_ntz 17 = .ok (.iconst 1, 1) := by decide +kernel
theorem d_Itg_ntz_18 : decode b_Itg_ntz 18 = .ok (.istore_n 1, 1) := by decide +kernel
theorem d_Itg_ntz_19 : decode b_Itg_ntz 19 = .ok (.iload_n 0, 1) := by decide +kernel
theorem d_Itg_ntz_20 : decode b_Itg_ntz 20 = .ok (.ldc_w 264, 3) := by decide +kernel
theorem d_Itg_ntz_23 : decode b_Itg_ntz 23 = .ok (.if_icmp .le 11, 3) := by decide +kernel
theorem d_Itg_ntz_26 : decode b_Itg_ntz 26 = .ok (.iinc 1 16, 3) := by decide +kernel
theorem d_Itg_ntz_29 : decode b_Itg_ntz 29 = .ok (.iload_n 0, 1) := by decide +kernel
theorem d_Itg_ntz_30 : decode b_Itg_ntz 30 = .ok (.bipush 16, 2) := by decide +kernel
theorem d_Itg_ntz_32 : decode b_Itg_ntz 32 = .ok (.iushr, 1) := by decide +kernel
theorem d_Itg_ntz_33 : decode b_Itg_ntz 33 = .ok (.istore_n 0, 1) := by decide +kernel
theorem d_Itg_ntz_34 : decode b_Itg_ntz 34 = .ok (.iload_n 0, 1) := by decide +kernel
theorem d_Itg_ntz_35 : decode b_Itg_ntz 35 = .ok (.sipush 256, 3) := by decide +kernel
theorem d_Itg_ntz_38 : decode b_Itg_ntz 38 = .ok (.if_icmp .le 11, 3) := by decide +kernel
theorem d_Itg_ntz_41 : decode b_Itg_ntz 41 = .ok (.iinc 1 8, 3) := by decide +kernel
theorem d_Itg_ntz_44 : decode b_Itg_ntz 44 = .ok (.iload_n 0, 1) := by decide +kernel
theorem d_Itg_ntz_45 : decode b_Itg_ntz 45 = .ok (.bipush 8, 2) := by decide +kernel
theorem d_Itg_ntz_47 : decode b_Itg_ntz 47 = .ok (.iushr, 1) := by decide +kernel
theorem d_Itg_ntz_48 : decode b_Itg_ntz 48 = .ok (.istore_n 0, 1) := by decide +kernel
theorem d_Itg_ntz_49 : decode b_Itg_ntz 49 = .ok (.iload_n 0, 1) := by decide +kernel
theorem d_Itg_ntz_50 : decode b_Itg_ntz 50 = .ok (.bipush 16, 2) := by decide +kernel
theorem d_Itg_ntz_52 : decode b_Itg_ntz 52 = .ok (.if_icmp .le 10, 3) := by decide +kernel
theorem d_Itg_ntz_55 : decode b_Itg_ntz 55 = .ok (.iinc 1 4, 3) := by decide +kernel
theorem d_Itg_ntz_58 : decode b_Itg_ntz 58 = .ok (.iload_n 0, 1) := by decide +kernel
theorem d_Itg_ntz_59 : decode b_Itg_ntz 59 = .ok (.iconst 4, 1) := by decide +kernel
theorem d_Itg_ntz_60 : decode b_Itg_ntz 60 = .ok (.iushr, 1) := by decide +kernel
theorem d_Itg_ntz_61 : decode b_Itg_ntz 61 = .ok (.istore_n 0, 1) := by decide +kernel
theorem d_Itg_ntz_62 : decode b_Itg_ntz 62 = .ok (.iload_n 0, 1) := by decide +kernel
theorem d_Itg_ntz_63 : decode b_Itg_ntz 63 = .ok (.iconst 4, 1) := by decide +kernel
theorem d_Itg_ntz_64 : decode b_Itg_ntz 64 = .ok (.if_icmp .le 10, 3) := by decide +kernel
theorem d_Itg_ntz_67 : decode b_Itg_ntz 67 = .ok (.iinc 1 2, 3) := by decide +kernel
theorem d_Itg_ntz_70 : decode b_Itg_ntz 70 = .ok (.iload_n 0, 1) := by decide +kernel
theorem d_Itg_ntz_71 : decode b_Itg_ntz 71 = .ok (.iconst 2, 1) := by decide +kernel
theorem d_Itg_ntz_72 : decode b_Itg_ntz 72 = .ok (.iushr, 1) := by decide +kernel
theorem d_Itg_ntz_73 : decode b_Itg_ntz 73 = .ok (.istore_n 0, 1) := by decide +kernel
theorem d_Itg_ntz_74 : decode b_Itg_ntz 74 = .ok (.iload_n 1, 1) := by decide +kernel
theorem d_Itg_ntz_75 : decode b_Itg_ntz 75 = .ok (.iload_n 0, 1) := by decide +kernel
theorem d_Itg_ntz_76 : decode b_Itg_ntz 76 = .ok (.iconst 1, 1) := by decide +kernel
theorem d_Itg_ntz_77 : decode b_Itg_ntz 77 = .ok (.iushr, 1) := by decide +kernel
theorem d_Itg_ntz_78 : decode b_Itg_ntz 78 = .ok (.iadd, 1) := by decide +kernel
theorem d_Itg_ntz_79 : decode b_Itg_ntz 79 = .ok (.ireturn, 1) := by decide +kernel
theorem d_Bk_add_0 : decode b_Bk_add 0 = .ok (.aload_n 0, 1) := by decide +kernel
theorem d_Bk_add_1 : decode b_Bk_add 1 = .ok (.getfield 21, 3) := by decide +kernel
theorem d_Bk_add_4 : decode b_Bk_add 4 = .ok (.bipush 16, 2) := by decide +kernel
theorem d_Bk_add_6 : decode b_Bk_add 6 = .ok (.irem, 1) := by decide +kernel
theorem d_Bk_add_7 : decode b_Bk_add 7 = .ok (.istore 4, 2) := by decide +kernel
theorem d_Bk_add_9 : decode b_Bk_add 9 = .ok (.aload_n 0, 1) := by decide +kernel
theorem d_Bk_add_10 : decode b_Bk_add 10 = .ok (.getfield 9, 3) := by decide +kernel
theorem d_Bk_add_13 : decode b_Bk_add 13 = .ok (.iload 4, 2) := by decide +kernel
theorem d_Bk_add_15 : decode b_Bk_add 15 = .ok (.iload_n 1, 1) := by decide +kernel
theorem d_Bk_add_16 : decode b_Bk_add 16 = .ok (.iastore, 1) := by decide +kernel
theorem d_Bk_add_17 : decode b_Bk_add 17 = .ok (.aload_n 0, 1) := by decide +kernel
theorem d_Bk_add_18 : decode b_Bk_add 18 = .ok (.getfield 15, 3) := by decide +kernel
theorem d_Bk_add_21 : decode b_Bk_add 21 = .ok (.iload 4, 2) := by decide +kernel
theorem d_Bk_add_23 : decode b_Bk_add 23 = .ok (.iload_n 2, 1) := by decide +kernel
theorem d_Bk_add_24 : decode b_Bk_add 24 = .ok (.iastore, 1) := by decide +kernel
theorem d_Bk_add_25 : decode b_Bk_add 25 = .ok (.aload_n 0, 1) := by decide +kernel
theorem d_Bk_add_26 : decode b_Bk_add 26 = .ok (.getfield 18, 3) := by decide +kernel
theorem d_Bk_add_29 : decode b_Bk_add 29 = .ok (.iload 4, 2) := by decide +kernel
theorem d_Bk_add_31 : decode b_Bk_add 31 = .ok (.iload_n 3, 1) := by decide +kernel
theorem d_Bk_add_32 : decode b_Bk_add 32 = .ok (.iastore, 1) := by decide +kernel
theorem d_Bk_add_33 : decode b_Bk_add 33 = .ok (.aload_n 0, 1) := by decide +kernel
theorem d_Bk_add_34 : decode b_Bk_add 34 = .ok (.dup, 1) := by decide +kernel
theorem d_Bk_add_35 : decode b_Bk_add 35 = .ok (.getfield 21, 3) := by decide +kernel
theorem d_Bk_add_38 : decode b_Bk_add 38 = .ok (.iconst 1, 1) := by decide +kernel
theorem d_Bk_add_39 : decode b_Bk_add 39 = .ok (.iadd, 1) := by decide +kernel
theorem d_Bk_add_40 : decode b_Bk_add 40 = .ok (.putfield 21, 3) := by decide +kernel
theorem d_Bk_add_43 : decode b_Bk_add 43 = .ok (.return_, 1) := by decide +kernel
theorem d_TG_next_0 : decode b_TG_next 0 = .ok (.iload_n 1, 1) := by decide +kernel
theorem d_TG_next_1 : decode b_TG_next 1 = .ok (.ifCond .lt 10, 3) := by decide +kernel
theorem d_TG_next_4 : decode b_TG_next 4 = .ok (.iload_n 1, 1) := by decide +kernel
theorem d_TG_next_5 : decode b_TG_next 5 = .ok (.sipush 20000, 3) := by decide +kernel
theorem d_TG_next_8 : decode b_TG_next 8 = .ok (.if_icmp .le 5, 3) := by decide +kernel
theorem d_TG_next_11 : decode b_TG_next 11 = .ok (.iconst (-1), 1) := by decide +kernel
theorem d_TG_next_12 : decode b_TG_next 12 = .ok (.ireturn, 1) := by decide +kernel
theorem d_TG_next_13 : decode b_TG_next 13 = .ok (.iconst 0, 1) := by decide +kernel
theorem d_TG_next_14 : decode b_TG_next 14 = .ok (.istore_n 2, 1) := by decide +kernel
theorem d_TG_next_15 : decode b_TG_next 15 = .ok (.iconst 0, 1) := by decide +kernel
theorem d_TG_next_16 : decode b_TG_next 16 = .ok (.istore_n 3, 1) := by decide +kernel
theorem d_TG_next_17 : decode b_TG_next 17 = .ok (.iload_n 2, 1) := by decide +kernel
theorem d_TG_next_18 : decode b_TG_next 18 = .ok (.iload_n 1, 1) := by decide +kernel
theorem d_TG_next_19 : decode b_TG_next 19 = .ok (.if_icmp .ge 34, 3) := by decide +kernel
theorem d_TG_next_22 : decode b_TG_next 22 = .ok (.iload_n 3, 1) := by decide +kernel
theorem d_TG_next_23 : decode b_TG_next 23 = .ok (.ifCond .ne 30, 3) := by decide +kernel
theorem d_TG_next_26 : decode b_TG_next 26 = .ok (.iload_n 1, 1) := by decide +kernel
theorem d_TG_next_27 : decode b_TG_next 27 = .ok (.iload_n 2, 1) := by decide +kernel
theorem d_TG_next_28 : decode b_TG_next 28 = .ok (.isub, 1) := by decide +kernel
theorem d_TG_next_29 : decode b_TG_next 29 = .ok (.aload_n 0, 1) := by decide +kernel
theorem d_TG_next_30 : decode b_TG_next 30 = .ok (.invokevirtual 114, 3) := by decide +kernel
theorem d_TG_next_33 : decode b_TG_next 33 = .ok (.invokestatic 70, 3) := by decide +kernel
theorem d_TG_next_36 : decode b_TG_next 36 = .ok (.istore 4, 2) := by decide +kernel
theorem d_TG_next_38 : decode b_TG_next 38 = .ok (.aload_n 0, 1) := by decide +kernel
theorem d_TG_next_39 : decode b_TG_next 39 = .ok (.iload 4, 2) := by decide +kernel
theorem d_TG_next_41 : decode b_TG_next 41 = .ok (.invokevirtual 118, 3) := by decide +kernel
theorem d_TG_next_44 : decode b_TG_next 44 = .ok (.istore_n 3, 1) := by decide +kernel
theorem d_TG_next_45 : decode b_TG_next 45 = .ok (.iload_n 2, 1) := by decide +kernel
theorem d_TG_next_46 : decode b_TG_next 46 = .ok (.iload 4, 2) := by decide +kernel
theorem d_TG_next_48 : decode b_TG_next 48 = .ok (.iadd, 1) := by decide +kernel
theorem d_TG_next_49 : decode b_TG_next 49 = .ok (.istore_n 2, 1) := by decide +kernel
theorem d_TG_next_50 : decode b_TG_next 50 = .ok (.goto (-33), 3) := by decide +kernel
theorem d_TG_next_53 : decode b_TG_next 53 = .ok (.iload_n 2, 1) := by decide +kernel
theorem d_TG_next_54 : decode b_TG_next 54 = .ok (.ireturn, 1) := by decide +kernel
theorem d_TG_timer_0 : decode b_TG_timer 0 = .ok (.iload_n 1, 1) := by decide +kernel
theorem d_TG_timer_1 : decode b_TG_timer 1 = .ok (.invokestatic 30, 3) := by decide +kernel
theorem d_TG_timer_4 : decode b_TG_timer 4 = .ok (.ifCond .ne 5, 3) := by decide +kernel
theorem d_TG_timer_7 : decode b_TG_timer 7 = .ok (.iconst (-1), 1) := by decide +kernel
theorem d_TG_timer_8 : decode b_TG_timer 8 = .ok (.ireturn, 1) := by decide +kernel
theorem d_TG_timer_9 : decode b_TG_timer 9 = .ok (.aload_n 0, 1) := by decide +kernel
theorem d_TG_timer_10 : decode b_TG_timer 10 = .ok (.getfield 11, 3) := by decide +kernel
theorem d_TG_timer_13 : decode b_TG_timer 13 = .ok (.iload_n 1, 1) := by decide +kernel
theorem d_TG_timer_14 : decode b_TG_timer 14 = .ok (.aaload, 1) := by decide +kernel
theorem d_TG_timer_15 : decode b_TG_timer 15 = .ok (.astore_n 3, 1) := by decide +kernel
theorem d_TG_timer_16 : decode b_TG_timer 16 = .ok (.iload_n 2, 1) := by decide +kernel
theorem d_TG_timer_17 : decode b_TG_timer 17 = .ok (.tableswitch 112 0 8 #[51, 56, 61, 66, 79, 92, 97, 102, 107], 51) := by decide +kernel
theorem d_TG_timer_68 : decode b_TG_timer 68 = .ok (.aload_n 3, 1) := by decide +kernel
theorem d_TG_timer_69 : decode b_TG_timer 69 = .ok (.getfield 42, 3) := by decide +kernel
theorem d_TG_timer_72 : decode b_TG_timer 72 = .ok (.ireturn, 1) := by decide +kernel
theorem d_TG_timer_73 : decode b_TG_timer 73 = .ok (.aload_n 3, 1) := by decide +kernel
theorem d_TG_timer_74 : decode b_TG_timer 74 = .ok (.getfield 39, 3) := by decide +kernel
theorem d_TG_timer_77 : decode b_TG_timer 77 = .ok (.ireturn, 1) := by decide +kernel
theorem d_TG_timer_78 : decode b_TG_timer 78 = .ok (.aload_n 3, 1) := by decide +kernel
theorem d_TG_timer_79 : decode b_TG_timer 79 = .ok (.getfield 35, 3) := by decide +kernel
theorem d_TG_timer_82 : decode b_TG_timer 82 = .ok (.ireturn, 1) := by decide +kernel
theorem d_TG_timer_83 : decode b_TG_timer 83 = .ok (.aload_n 3, 1) := by decide +kernel
theorem d_TG_timer_84 : decode b_TG_timer 84 = .ok (.getfield 49, 3) := by decide +kernel
theorem d_TG_timer_87 : decode b_TG_timer 87 = .ok (.ifCond .eq 7, 3) := by decide +kernel
theorem d_TG_timer_90 : decode b_TG_timer 90 = .ok (.iconst 1, 1) := by decide +kernel
theorem d_TG_timer_91 : decode b_TG_timer 91 = .ok (.goto 4, 3) := by decide +kernel
theorem d_TG_timer_94 : decode b_TG_timer 94 = .ok (.iconst 0, 1) := by decide +kernel
theorem d_TG_timer_95 : decode b_TG_timer 95 = .ok (.ireturn, 1) := by decide +kernel
theorem d_TG_timer_96 : decode b_TG_timer 96 = .ok (.aload_n 3, 1) := by decide +kernel
theorem d_TG_timer_97 : decode b_TG_timer 97 = .ok (.getfield 45, 3) := by decide +kernel
theorem d_TG_timer_100 : decode b_TG_timer 100 = .ok (.ifCond .eq 7, 3) := by decide +kernel
theorem d_TG_timer_103 : decode b_TG_timer 103 = .ok (.iconst 1, 1) := by decide +kernel
theorem d_TG_timer_104 : decode b_TG_timer 104 = .ok (.goto 4, 3) := by decide +kernel
theorem d_TG_timer_107 : decode b_TG_timer 107 = .ok (.iconst 0, 1) := by decide +kernel
theorem d_TG_timer_108 : decode b_TG_timer 108 = .ok (.ireturn, 1) := by decide +kernel
theorem d_TG_timer_109 : decode b_TG_timer 109 = .ok (.aload_n 3, 1) := by decide +kernel
theorem d_TG_timer_110 : decode b_TG_timer 110 = .ok (.getfield 121, 3) := by decide +kernel
theorem d_TG_timer_113 : decode b_TG_timer 113 = .ok (.ireturn, 1) := by decide +kernel
theorem d_TG_timer_114 : decode b_TG_timer 114 = .ok (.aload_n 3, 1) := by decide +kernel
theorem d_TG_timer_115 : decode b_TG_timer 115 = .ok (.getfield 89, 3) := by decide +kernel
theorem d_TG_timer_118 : decode b_TG_timer 118 = .ok (.ireturn, 1) := by decide +kernel
theorem d_TG_timer_119 : decode b_TG_timer 119 = .ok (.aload_n 3, 1) := by decide +kernel
theorem d_TG_timer_120 : decode b_TG_timer 120 = .ok (.getfield 103, 3) := by decide +kernel
theorem d_TG_timer_123 : decode b_TG_timer 123 = .ok (.ireturn, 1) := by decide +kernel
theorem d_TG_timer_124 : decode b_TG_timer 124 = .ok (.aload_n 3, 1) := by decide +kernel
theorem d_TG_timer_125 : decode b_TG_timer 125 = .ok (.getfield 64, 3) := by decide +kernel
theorem d_TG_timer_128 : decode b_TG_timer 128 = .ok (.ireturn, 1) := by decide +kernel
theorem d_TG_timer_129 : decode b_TG_timer 129 = .ok (.iconst (-1), 1) := by decide +kernel
theorem d_TG_timer_130 : decode b_TG_timer 130 = .ok (.ireturn, 1) := by decide +kernel
theorem d_TG_gateOf_0 : decode b_TG_gateOf 0 = .ok (.iload_n 1, 1) := by decide +kernel
theorem d_TG_gateOf_1 : decode b_TG_gateOf 1 = .ok (.invokestatic 52, 3) := by decide +kernel
theorem d_TG_gateOf_4 : decode b_TG_gateOf 4 = .ok (.ifCond .ne 5, 3) := by decide +kernel
theorem d_TG_gateOf_7 : decode b_TG_gateOf 7 = .ok (.iconst (-1), 1) := by decide +kernel
theorem d_TG_gateOf_8 : decode b_TG_gateOf 8 = .ok (.ireturn, 1) := by decide +kernel
theorem d_TG_gateOf_9 : decode b_TG_gateOf 9 = .ok (.aload_n 0, 1) := by decide +kernel
theorem d_TG_gateOf_10 : decode b_TG_gateOf 10 = .ok (.getfield 17, 3) := by decide +kernel
theorem d_TG_gateOf_13 : decode b_TG_gateOf 13 = .ok (.iload_n 1, 1) := by decide +kernel
theorem d_TG_gateOf_14 : decode b_TG_gateOf 14 = .ok (.aaload, 1) := by decide +kernel
theorem d_TG_gateOf_15 : decode b_TG_gateOf 15 = .ok (.astore_n 3, 1) := by decide +kernel
theorem d_TG_gateOf_16 : decode b_TG_gateOf 16 = .ok (.iload_n 2, 1) := by decide +kernel
theorem d_TG_gateOf_17 : decode b_TG_gateOf 17 = .ok (.tableswitch 87 0 6 #[43, 57, 62, 67, 72, 77, 82], 43) := by decide +kernel
theorem d_TG_gateOf_60 : decode b_TG_gateOf 60 = .ok (.aload_n 0, 1) := by decide +kernel
theorem d_TG_gateOf_61 : decode b_TG_gateOf 61 = .ok (.aload_n 3, 1) := by decide +kernel
theorem d_TG_gateOf_62 : decode b_TG_gateOf 62 = .ok (.invokevirtual 79, 3) := by decide +kernel
theorem d_TG_gateOf_65 : decode b_TG_gateOf 65 = .ok (.ifCond .eq 7, 3) := by decide +kernel
theorem d_TG_gateOf_68 : decode b_TG_gateOf 68 = .ok (.iconst 1, 1) := by decide +kernel
theorem d_TG_gateOf_69 : decode b_TG_gateOf 69 = .ok (.goto 4, 3) := by decide +kernel
theorem d_TG_gateOf_72 : decode b_TG_gateOf 72 = .ok (.iconst 0, 1) := by decide +kernel
theorem d_TG_gateOf_73 : decode b_TG_gateOf 73 = .ok (.ireturn, 1) := by decide +kernel
theorem d_TG_gateOf_74 : decode b_TG_gateOf 74 = .ok (.aload_n 3, 1) := by decide +kernel
theorem d_TG_gateOf_75 : decode b_TG_gateOf 75 = .ok (.getfield 76, 3) := by decide +kernel
theorem d_TG_gateOf_78 : decode b_TG_gateOf 78 = .ok (.ireturn, 1) := by decide +kernel
theorem d_TG_gateOf_79 : decode b_TG_gateOf 79 = .ok (.aload_n 3, 1) := by decide +kernel
theorem d_TG_gateOf_80 : decode b_TG_gateOf 80 = .ok (.getfield 55, 3) := by decide +kernel
theorem d_TG_gateOf_83 : decode b_TG_gateOf 83 = .ok (.ireturn, 1) := by decide +kernel
theorem d_TG_gateOf_84 : decode b_TG_gateOf 84 = .ok (.aload_n 3, 1) := by decide +kernel
theorem d_TG_gateOf_85 : decode b_TG_gateOf 85 = .ok (.getfield 58, 3) := by decide +kernel
theorem d_TG_gateOf_88 : decode b_TG_gateOf 88 = .ok (.ireturn, 1) := by decide +kernel
theorem d_TG_gateOf_89 : decode b_TG_gateOf 89 = .ok (.aload_n 3, 1) := by decide +kernel
theorem d_TG_gateOf_90 : decode b_TG_gateOf 90 = .ok (.getfield 106, 3) := by decide +kernel
theorem d_TG_gateOf_93 : decode b_TG_gateOf 93 = .ok (.ireturn, 1) := by decide +kernel
theorem d_TG_gateOf_94 : decode b_TG_gateOf 94 = .ok (.aload_n 3, 1) := by decide +kernel
theorem d_TG_gateOf_95 : decode b_TG_gateOf 95 = .ok (.getfield 96, 3) := by decide +kernel
theorem d_TG_gateOf_98 : decode b_TG_gateOf 98 = .ok (.ireturn, 1) := by decide +kernel
theorem d_TG_gateOf_99 : decode b_TG_gateOf 99 = .ok (.aload_n 3, 1) := by decide +kernel
theorem d_TG_gateOf_100 : decode b_TG_gateOf 100 = .ok (.getfield 107, 3) := by decide +kernel
theorem d_TG_gateOf_103 : decode b_TG_gateOf 103 = .ok (.ireturn, 1) := by decide +kernel
theorem d_TG_gateOf_104 : decode b_TG_gateOf 104 = .ok (.iconst (-1), 1) := by decide +kernel
theorem d_TG_gateOf_105 : decode b_TG_gateOf 105 = .ok (.ireturn, 1) := by decide +kernel
theorem d_TG_look_0 : decode b_TG_look 0 = .ok (.iload_n 1, 1) := by decide +kernel
theorem d_TG_look_1 : decode b_TG_look 1 = .ok (.tableswitch 125 0 3 #[31, 36, 41, 49], 31) := by decide +kernel
theorem d_TG_look_32 : decode b_TG_look 32 = .ok (.aload_n 0, 1) := by decide +kernel
theorem d_TG_look_33 : decode b_TG_look 33 = .ok (.getfield 61, 3) := by decide +kernel
theorem d_TG_look_36 : decode b_TG_look 36 = .ok (.ireturn, 1) := by decide +kernel
theorem d_TG_look_37 : decode b_TG_look 37 = .ok (.aload_n 0, 1) := by decide +kernel
theorem d_TG_look_38 : decode b_TG_look 38 = .ok (.getfield 83, 3) := by decide +kernel
theorem d_TG_look_41 : decode b_TG_look 41 = .ok (.ireturn, 1) := by decide +kernel
theorem d_TG_look_42 : decode b_TG_look 42 = .ok (.aload_n 0, 1) := by decide +kernel
theorem d_TG_look_43 : decode b_TG_look 43 = .ok (.getfield 24, 3) := by decide +kernel
theorem d_TG_look_46 : decode b_TG_look 46 = .ok (.getfield 124, 3) := by decide +kernel
theorem d_TG_look_49 : decode b_TG_look 49 = .ok (.ireturn, 1) := by decide +kernel
theorem d_TG_look_50 : decode b_TG_look 50 = .ok (.ldc 69, 2) := by decide +kernel
theorem d_TG_look_52 : decode b_TG_look 52 = .ok (.istore_n 2, 1) := by decide +kernel
theorem d_TG_look_53 : decode b_TG_look 53 = .ok (.aload_n 0, 1) := by decide +kernel
theorem d_TG_look_54 : decode b_TG_look 54 = .ok (.getfield 11, 3) := by decide +kernel
theorem d_TG_look_57 : decode b_TG_look 57 = .ok (.astore_n 3, 1) := by decide +kernel
theorem d_TG_look_58 : decode b_TG_look 58 = .ok (.aload_n 3, 1) := by decide +kernel
theorem d_TG_look_59 : decode b_TG_look 59 = .ok (.arraylength, 1) := by decide +kernel
theorem d_TG_look_60 : decode b_TG_look 60 = .ok (.istore 4, 2) := by decide +kernel
theorem d_TG_look_62 : decode b_TG_look 62 = .ok (.iconst 0, 1) := by decide +kernel
theorem d_TG_look_63 : decode b_TG_look 63 = .ok (.istore 5, 2) := by decide +kernel
theorem d_TG_look_65 : decode b_TG_look 65 = .ok (.iload 5, 2) := by decide +kernel
theorem d_TG_look_67 : decode b_TG_look 67 = .ok (.iload 4, 2) := by decide +kernel
theorem d_TG_look_69 : decode b_TG_look 69 = .ok (.if_icmp .ge 45, 3) := by decide +kernel
theorem d_TG_look_72 : decode b_TG_look 72 = .ok (.aload_n 3, 1) := by decide +kernel
theorem d_TG_look_73 : decode b_TG_look 73 = .ok (.iload 5, 2) := by decide +kernel
theorem d_TG_look_75 : decode b_TG_look 75 = .ok (.aaload, 1) := by decide +kernel
theorem d_TG_look_76 : decode b_TG_look 76 = .ok (.astore 6, 2) := by decide +kernel
theorem d_TG_look_78 : decode b_TG_look 78 = .ok (.aload 6, 2) := by decide +kernel
theorem d_TG_look_80 : decode b_TG_look 80 = .ok (.getfield 49, 3) := by decide +kernel
theorem d_TG_look_83 : decode b_TG_look 83 = .ok (.ifCond .eq 23, 3) := by decide +kernel
theorem d_TG_look_86 : decode b_TG_look 86 = .ok (.aload 6, 2) := by decide +kernel
theorem d_TG_look_88 : decode b_TG_look 88 = .ok (.getfield 35, 3) := by decide +kernel
theorem d_TG_look_91 : decode b_TG_look 91 = .ok (.ifCond .ne 15, 3) := by decide +kernel
theorem d_TG_look_94 : decode b_TG_look 94 = .ok (.iload_n 2, 1) := by decide +kernel
theorem d_TG_look_95 : decode b_TG_look 95 = .ok (.aload 6, 2) := by decide +kernel
theorem d_TG_look_97 : decode b_TG_look 97 = .ok (.getfield 42, 3) := by decide +kernel
theorem d_TG_look_100 : decode b_TG_look 100 = .ok (.invokestatic 70, 3) := by decide +kernel
theorem d_TG_look_103 : decode b_TG_look 103 = .ok (.goto 4, 3) := by decide +kernel
theorem d_TG_look_106 : decode b_TG_look 106 = .ok (.iload_n 2, 1) := by decide +kernel
theorem d_TG_look_107 : decode b_TG_look 107 = .ok (.istore_n 2, 1) := by decide +kernel
theorem d_TG_look_108 : decode b_TG_look 108 = .ok (.iinc 5 1, 3) := by decide +kernel
theorem d_TG_look_111 : decode b_TG_look 111 = .ok (.goto (-46), 3) := by decide +kernel
theorem d_TG_look_114 : decode b_TG_look 114 = .ok (.iload_n 2, 1) := by decide +kernel
theorem d_TG_look_115 : decode b_TG_look 115 = .ok (.ldc 69, 2) := by decide +kernel
theorem d_TG_look_117 : decode b_TG_look 117 = .ok (.if_icmp .ne 7, 3) := by decide +kernel
theorem d_TG_look_120 : decode b_TG_look 120 = .ok (.iconst 0, 1) := by decide +kernel
theorem d_TG_look_121 : decode b_TG_look 121 = .ok (.goto 4, 3) := by decide +kernel
theorem d_TG_look_124 : decode b_TG_look 124 = .ok (.iload_n 2, 1) := by decide +kernel
theorem d_TG_look_125 : decode b_TG_look 125 = .ok (.ireturn, 1) := by decide +kernel
theorem d_TG_look_126 : decode b_TG_look 126 = .ok (.iconst (-1), 1) := by decide +kernel
theorem d_TG_look_127 : decode b_TG_look 127 = .ok (.ireturn, 1) := by decide +kernel
theorem d_TG_served_0 : decode b_TG_served 0 = .ok (.aload_n 0, 1) := by decide +kernel
theorem d_TG_served_1 : decode b_TG_served 1 = .ok (.getfield 24, 3) := by decide +kernel
theorem d_TG_served_4 : decode b_TG_served 4 = .ok (.iload_n 1, 1) := by decide +kernel
theorem d_TG_served_5 : decode b_TG_served 5 = .ok (.iload_n 2, 1) := by decide +kernel
theorem d_TG_served_6 : decode b_TG_served 6 = .ok (.invokevirtual 127, 3) := by decide +kernel
theorem d_TG_served_9 : decode b_TG_served 9 = .ok (.ireturn, 1) := by decide +kernel
theorem d_Bk_get_0 : decode b_Bk_get 0 = .ok (.iload_n 1, 1) := by decide +kernel
theorem d_Bk_get_1 : decode b_Bk_get 1 = .ok (.ifCond .lt 17, 3) := by decide +kernel
theorem d_Bk_get_4 : decode b_Bk_get 4 = .ok (.iload_n 1, 1) := by decide +kernel
theorem d_Bk_get_5 : decode b_Bk_get 5 = .ok (.bipush 16, 2) := by decide +kernel
theorem d_Bk_get_7 : decode b_Bk_get 7 = .ok (.if_icmp .ge 11, 3) := by decide +kernel
theorem d_Bk_get_10 : decode b_Bk_get 10 = .ok (.iload_n 1, 1) := by decide +kernel
theorem d_Bk_get_11 : decode b_Bk_get 11 = .ok (.aload_n 0, 1) := by decide +kernel
theorem d_Bk_get_12 : decode b_Bk_get 12 = .ok (.getfield 21, 3) := by decide +kernel
theorem d_Bk_get_15 : decode b_Bk_get 15 = .ok (.if_icmp .lt 5, 3) := by decide +kernel
theorem d_Bk_get_18 : decode b_Bk_get 18 = .ok (.iconst (-1), 1) := by decide +kernel
theorem d_Bk_get_19 : decode b_Bk_get 19 = .ok (.ireturn, 1) := by decide +kernel
theorem d_Bk_get_20 : decode b_Bk_get 20 = .ok (.aload_n 0, 1) := by decide +kernel
theorem d_Bk_get_21 : decode b_Bk_get 21 = .ok (.getfield 21, 3) := by decide +kernel
theorem d_Bk_get_24 : decode b_Bk_get 24 = .ok (.iconst 1, 1) := by decide +kernel
theorem d_Bk_get_25 : decode b_Bk_get 25 = .ok (.isub, 1) := by decide +kernel
theorem d_Bk_get_26 : decode b_Bk_get 26 = .ok (.iload_n 1, 1) := by decide +kernel
theorem d_Bk_get_27 : decode b_Bk_get 27 = .ok (.isub, 1) := by decide +kernel
theorem d_Bk_get_28 : decode b_Bk_get 28 = .ok (.bipush 16, 2) := by decide +kernel
theorem d_Bk_get_30 : decode b_Bk_get 30 = .ok (.irem, 1) := by decide +kernel
theorem d_Bk_get_31 : decode b_Bk_get 31 = .ok (.istore_n 3, 1) := by decide +kernel
theorem d_Bk_get_32 : decode b_Bk_get 32 = .ok (.iload_n 2, 1) := by decide +kernel
theorem d_Bk_get_33 : decode b_Bk_get 33 = .ok (.ifCond .ne 12, 3) := by decide +kernel
theorem d_Bk_get_36 : decode b_Bk_get 36 = .ok (.aload_n 0, 1) := by decide +kernel
theorem d_Bk_get_37 : decode b_Bk_get 37 = .ok (.getfield 9, 3) := by decide +kernel
theorem d_Bk_get_40 : decode b_Bk_get 40 = .ok (.iload_n 3, 1) := by decide +kernel
theorem d_Bk_get_41 : decode b_Bk_get 41 = .ok (.iaload, 1) := by decide +kernel
theorem d_Bk_get_42 : decode b_Bk_get 42 = .ok (.goto 32, 3) := by decide +kernel
theorem d_Bk_get_45 : decode b_Bk_get 45 = .ok (.iload_n 2, 1) := by decide +kernel
theorem d_Bk_get_46 : decode b_Bk_get 46 = .ok (.iconst 1, 1) := by decide +kernel
theorem d_Bk_get_47 : decode b_Bk_get 47 = .ok (.if_icmp .ne 12, 3) := by decide +kernel
theorem d_Bk_get_50 : decode b_Bk_get 50 = .ok (.aload_n 0, 1) := by decide +kernel
theorem d_Bk_get_51 : decode b_Bk_get 51 = .ok (.getfield 15, 3) := by decide +kernel
theorem d_Bk_get_54 : decode b_Bk_get 54 = .ok (.iload_n 3, 1) := by decide +kernel
theorem d_Bk_get_55 : decode b_Bk_get 55 = .ok (.iaload, 1) := by decide +kernel
theorem d_Bk_get_56 : decode b_Bk_get 56 = .ok (.goto 18, 3) := by decide +kernel
theorem d_Bk_get_59 : decode b_Bk_get 59 = .ok (.iload_n 2, 1) := by decide +kernel
theorem d_Bk_get_60 : decode b_Bk_get 60 = .ok (.iconst 2, 1) := by decide +kernel
theorem d_Bk_get_61 : decode b_Bk_get 61 = .ok (.if_icmp .ne 12, 3) := by decide +kernel
theorem d_Bk_get_64 : decode b_Bk_get 64 = .ok (.aload_n 0, 1) := by decide +kernel
theorem d_Bk_get_65 : decode b_Bk_get 65 = .ok (.getfield 18, 3) := by decide +kernel
theorem d_Bk_get_68 : decode b_Bk_get 68 = .ok (.iload_n 3, 1) := by decide +kernel
theorem d_Bk_get_69 : decode b_Bk_get 69 = .ok (.iaload, 1) := by decide +kernel
theorem d_Bk_get_70 : decode b_Bk_get 70 = .ok (.goto 4, 3) := by decide +kernel
theorem d_Bk_get_73 : decode b_Bk_get 73 = .ok (.iconst (-1), 1) := by decide +kernel
theorem d_Bk_get_74 : decode b_Bk_get 74 = .ok (.ireturn, 1) := by decide +kernel
end
section
theorem d_Md_init_0 : decode b_Md_init 0 = .ok (.aload_n 0, 1) := by decide +kernel
theorem d_Md_init_1 : decode b_Md_init 1 = .ok (.invokespecial 1, 3) := by decide +kernel
theorem d_Md_init_4 : decode b_Md_init 4 = .ok (.aload_n 0, 1) := by decide +kernel
theorem d_Md_init_5 : decode b_Md_init 5 = .ok (.bipush 8, 2) := by decide +kernel
theorem d_Md_init_7 : decode b_Md_init 7 = .ok (.newarray .int, 2) := by decide +kernel
theorem d_Md_init_9 : decode b_Md_init 9 = .ok (.dup, 1) := by decide +kernel
theorem d_Md_init_10 : decode b_Md_init 10 = .ok (.iconst 0, 1) := by decide +kernel
theorem d_Md_init_11 : decode b_Md_init 11 = .ok (.iconst 1, 1) := by decide +kernel
theorem d_Md_init_12 : decode b_Md_init 12 = .ok (.iastore, 1) := by decide +kernel
theorem d_Md_init_13 : decode b_Md_init 13 = .ok (.dup, 1) := by decide +kernel
theorem d_Md_init_14 : decode b_Md_init 14 = .ok (.iconst 1, 1) := by decide +kernel
theorem d_Md_init_15 : decode b_Md_init 15 = .ok (.iconst 1, 1) := by decide +kernel
theorem d_Md_init_16 : decode b_Md_init 16 = .ok (.iastore, 1) := by decide +kernel
theorem d_Md_init_17 : decode b_Md_init 17 = .ok (.dup, 1) := by decide +kernel
theorem d_Md_init_18 : decode b_Md_init 18 = .ok (.iconst 2, 1) := by decide +kernel
theorem d_Md_init_19 : decode b_Md_init 19 = .ok (.iconst 1, 1) := by decide +kernel
theorem d_Md_init_20 : decode b_Md_init 20 = .ok (.iastore, 1) := by decide +kernel
theorem d_Md_init_21 : decode b_Md_init 21 = .ok (.dup, 1) := by decide +kernel
theorem d_Md_init_22 : decode b_Md_init 22 = .ok (.iconst 3, 1) := by decide +kernel
theorem d_Md_init_23 : decode b_Md_init 23 = .ok (.iconst 1, 1) := by decide +kernel
theorem d_Md_init_24 : decode b_Md_init 24 = .ok (.iastore, 1) := by decide +kernel
theorem d_Md_init_25 : decode b_Md_init 25 = .ok (.dup, 1) := by decide +kernel
theorem d_Md_init_26 : decode b_Md_init 26 = .ok (.iconst 4, 1) := by decide +kernel
theorem d_Md_init_27 : decode b_Md_init 27 = .ok (.iconst 1, 1) := by decide +kernel
theorem d_Md_init_28 : decode b_Md_init 28 = .ok (.iastore, 1) := by decide +kernel
theorem d_Md_init_29 : decode b_Md_init 29 = .ok (.dup, 1) := by decide +kernel
theorem d_Md_init_30 : decode b_Md_init 30 = .ok (.iconst 5, 1) := by decide +kernel
theorem d_Md_init_31 : decode b_Md_init 31 = .ok (.iconst 1, 1) := by decide +kernel
theorem d_Md_init_32 : decode b_Md_init 32 = .ok (.iastore, 1) := by decide +kernel
theorem d_Md_init_33 : decode b_Md_init 33 = .ok (.dup, 1) := by decide +kernel
theorem d_Md_init_34 : decode b_Md_init 34 = .ok (.bipush 6, 2) := by decide +kernel
theorem d_Md_init_36 : decode b_Md_init 36 = .ok (.iconst 1, 1) := by decide +kernel
theorem d_Md_init_37 : decode b_Md_init 37 = .ok (.iastore, 1) := by decide +kernel
theorem d_Md_init_38 : decode b_Md_init 38 = .ok (.dup, 1) := by decide +kernel
theorem d_Md_init_39 : decode b_Md_init 39 = .ok (.bipush 7, 2) := by decide +kernel
theorem d_Md_init_41 : decode b_Md_init 41 = .ok (.iconst 1, 1) := by decide +kernel
theorem d_Md_init_42 : decode b_Md_init 42 = .ok (.iastore, 1) := by decide +kernel
theorem d_Md_init_43 : decode b_Md_init 43 = .ok (.putfield 7, 3) := by decide +kernel
theorem d_Md_init_46 : decode b_Md_init 46 = .ok (.aload_n 0, 1) := by decide +kernel
theorem d_Md_init_47 : decode b_Md_init 47 = .ok (.bipush 8, 2) := by decide +kernel
theorem d_Md_init_49 : decode b_Md_init 49 = .ok (.newarray .int, 2) := by decide +kernel
theorem d_Md_init_51 : decode b_Md_init 51 = .ok (.dup, 1) := by decide +kernel
theorem d_Md_init_52 : decode b_Md_init 52 = .ok (.iconst 0, 1) := by decide +kernel
theorem d_Md_init_53 : decode b_Md_init 53 = .ok (.iconst 1, 1) := by decide +kernel
theorem d_Md_init_54 : decode b_Md_init 54 = .ok (.iastore, 1) := by decide +kernel
theorem d_Md_init_55 : decode b_Md_init 55 = .ok (.dup, 1) := by decide +kernel
theorem d_Md_init_56 : decode b_Md_init 56 = .ok (.iconst 1, 1) := by decide +kernel
theorem d_Md_init_57 : decode b_Md_init 57 = .ok (.iconst 1, 1) := by decide +kernel
theorem d_Md_init_58 : decode b_Md_init 58 = .ok (.iastore, 1) := by decide +kernel
theorem d_Md_init_59 : decode b_Md_init 59 = .ok (.dup, 1) := by decide +kernel
theorem d_Md_init_60 : decode b_Md_init 60 = .ok (.iconst 2, 1) := by decide +kernel
theorem d_Md_init_61 : decode b_Md_init 61 = .ok (.iconst 1, 1) := by decide +kernel
theorem d_Md_init_62 : decode b_Md_init 62 = .ok (.iastore, 1) := by decide +kernel
theorem d_Md_init_63 : decode b_Md_init 63 = .ok (.dup, 1) := by decide +kernel
theorem d_Md_init_64 : decode b_Md_init 64 = .ok (.iconst 3, 1) := by decide +kernel
theorem d_Md_init_65 : decode b_Md_init 65 = .ok (.iconst 1, 1) := by decide +kernel
theorem d_Md_init_66 : decode b_Md_init 66 = .ok (.iastore, 1) := by decide +kernel
theorem d_Md_init_67 : decode b_Md_init 67 = .ok (.dup, 1) := by decide +kernel
theorem d_Md_init_68 : decode b_Md_init 68 = .ok (.iconst 4, 1) := by decide +kernel
theorem d_Md_init_69 : decode b_Md_init 69 = .ok (.iconst 1, 1) := by decide +kernel
theorem d_Md_init_70 : decode b_Md_init 70 = .ok (.iastore, 1) := by decide +kernel
theorem d_Md_init_71 : decode b_Md_init 71 = .ok (.dup, 1) := by decide +kernel
theorem d_Md_init_72 : decode b_Md_init 72 = .ok (.iconst 5, 1) := by decide +kernel
theorem d_Md_init_73 : decode b_Md_init 73 = .ok (.iconst 1, 1) := by decide +kernel
theorem d_Md_init_74 : decode b_Md_init 74 = .ok (.iastore, 1) := by decide +kernel
theorem d_Md_init_75 : decode b_Md_init 75 = .ok (.dup, 1) := by decide +kernel
theorem d_Md_init_76 : decode b_Md_init 76 = .ok (.bipush 6, 2) := by decide +kernel
theorem d_Md_init_78 : decode b_Md_init 78 = .ok (.iconst 1, 1) := by decide +kernel
theorem d_Md_init_79 : decode b_Md_init 79 = .ok (.iastore, 1) := by decide +kernel
theorem d_Md_init_80 : decode b_Md_init 80 = .ok (.dup, 1) := by decide +kernel
theorem d_Md_init_81 : decode b_Md_init 81 = .ok (.bipush 7, 2) := by decide +kernel
theorem d_Md_init_83 : decode b_Md_init 83 = .ok (.iconst 1, 1) := by decide +kernel
theorem d_Md_init_84 : decode b_Md_init 84 = .ok (.iastore, 1) := by decide +kernel
theorem d_Md_init_85 : decode b_Md_init 85 = .ok (.putfield 13, 3) := by decide +kernel
theorem d_Md_init_88 : decode b_Md_init 88 = .ok (.aload_n 0, 1) := by decide +kernel
theorem d_Md_init_89 : decode b_Md_init 89 = .ok (.bipush 8, 2) := by decide +kernel
theorem d_Md_init_91 : decode b_Md_init 91 = .ok (.newarray .int, 2) := by decide +kernel
theorem d_Md_init_93 : decode b_Md_init 93 = .ok (.putfield 16, 3) := by decide +kernel
theorem d_Md_init_96 : decode b_Md_init 96 = .ok (.aload_n 0, 1) := by decide +kernel
theorem d_Md_init_97 : decode b_Md_init 97 = .ok (.bipush 8, 2) := by decide +kernel
theorem d_Md_init_99 : decode b_Md_init 99 = .ok (.newarray .boolean, 2) := by decide +kernel
theorem d_Md_init_101 : decode b_Md_init 101 = .ok (.putfield 19, 3) := by decide +kernel
theorem d_Md_init_104 : decode b_Md_init 104 = .ok (.aload_n 0, 1) := by decide +kernel
theorem d_Md_init_105 : decode b_Md_init 105 = .ok (.bipush 8, 2) := by decide +kernel
theorem d_Md_init_107 : decode b_Md_init 107 = .ok (.newarray .boolean, 2) := by decide +kernel
theorem d_Md_init_109 : decode b_Md_init 109 = .ok (.putfield 23, 3) := by decide +kernel
theorem d_Md_init_112 : decode b_Md_init 112 = .ok (.aload_n 0, 1) := by decide +kernel
theorem d_Md_init_113 : decode b_Md_init 113 = .ok (.bipush 32, 2) := by decide +kernel
theorem d_Md_init_115 : decode b_Md_init 115 = .ok (.newarray .int, 2) := by decide +kernel
theorem d_Md_init_117 : decode b_Md_init 117 = .ok (.putfield 26, 3) := by decide +kernel
theorem d_Md_init_120 : decode b_Md_init 120 = .ok (.aload_n 0, 1) := by decide +kernel
theorem d_Md_init_121 : decode b_Md_init 121 = .ok (.iconst 4, 1) := by decide +kernel
theorem d_Md_init_122 : decode b_Md_init 122 = .ok (.newarray .int, 2) := by decide +kernel
theorem d_Md_init_124 : decode b_Md_init 124 = .ok (.putfield 29, 3) := by decide +kernel
theorem d_Md_init_127 : decode b_Md_init 127 = .ok (.aload_n 0, 1) := by decide +kernel
theorem d_Md_init_128 : decode b_Md_init 128 = .ok (.iconst 4, 1) := by decide +kernel
theorem d_Md_init_129 : decode b_Md_init 129 = .ok (.newarray .int, 2) := by decide +kernel
theorem d_Md_init_131 : decode b_Md_init 131 = .ok (.dup, 1) := by decide +kernel
theorem d_Md_init_132 : decode b_Md_init 132 = .ok (.iconst 0, 1) := by decide +kernel
theorem d_Md_init_133 : decode b_Md_init 133 = .ok (.iconst 1, 1) := by decide +kernel
theorem d_Md_init_134 : decode b_Md_init 134 = .ok (.iastore, 1) := by decide +kernel
theorem d_Md_init_135 : decode b_Md_init 135 = .ok (.dup, 1) := by decide +kernel
theorem d_Md_init_136 : decode b_Md_init 136 = .ok (.iconst 1, 1) := by decide +kernel
theorem d_Md_init_137 : decode b_Md_init 137 = .ok (.iconst 1, 1) := by decide +kernel
theorem d_Md_init_138 : decode b_Md_init 138 = .ok (.iastore, 1) := by decide +kernel
theorem d_Md_init_139 : decode b_Md_init 139 = .ok (.dup, 1) := by decide +kernel
theorem d_Md_init_140 : decode b_Md_init 140 = .ok (.iconst 2, 1) := by decide +kernel
theorem d_Md_init_141 : decode b_Md_init 141 = .ok (.iconst 1, 1) := by decide +kernel
theorem d_Md_init_142 : decode b_Md_init 142 = .ok (.iastore, 1) := by decide +kernel
theorem d_Md_init_143 : decode b_Md_init 143 = .ok (.dup, 1) := by decide +kernel
theorem d_Md_init_144 : decode b_Md_init 144 = .ok (.iconst 3, 1) := by decide +kernel
theorem d_Md_init_145 : decode b_Md_init 145 = .ok (.iconst 1, 1) := by decide +kernel
theorem d_Md_init_146 : decode b_Md_init 146 = .ok (.iastore, 1) := by decide +kernel
theorem d_Md_init_147 : decode b_Md_init 147 = .ok (.putfield 32, 3) := by decide +kernel
theorem d_Md_init_150 : decode b_Md_init 150 = .ok (.aload_n 0, 1) := by decide +kernel
theorem d_Md_init_151 : decode b_Md_init 151 = .ok (.iconst 4, 1) := by decide +kernel
theorem d_Md_init_152 : decode b_Md_init 152 = .ok (.newarray .int, 2) := by decide +kernel
theorem d_Md_init_154 : decode b_Md_init 154 = .ok (.putfield 35, 3) := by decide +kernel
theorem d_Md_init_157 : decode b_Md_init 157 = .ok (.aload_n 0, 1) := by decide +kernel
theorem d_Md_init_158 : decode b_Md_init 158 = .ok (.iconst 4, 1) := by decide +kernel
theorem d_Md_init_159 : decode b_Md_init 159 = .ok (.newarray .boolean, 2) := by decide +kernel
theorem d_Md_init_161 : decode b_Md_init 161 = .ok (.putfield 38, 3) := by decide +kernel
theorem d_Md_init_164 : decode b_Md_init 164 = .ok (.aload_n 0, 1) := by decide +kernel
theorem d_Md_init_165 : decode b_Md_init 165 = .ok (.iconst 4, 1) := by decide +kernel
theorem d_Md_init_166 : decode b_Md_init 166 = .ok (.newarray .int, 2) := by decide +kernel
theorem d_Md_init_168 : decode b_Md_init 168 = .ok (.putfield 41, 3) := by decide +kernel
theorem d_Md_init_171 : decode b_Md_init 171 = .ok (.aload_n 0, 1) := by decide +kernel
theorem d_Md_init_172 : decode b_Md_init 172 = .ok (.iconst 4, 1) := by decide +kernel
theorem d_Md_init_173 : decode b_Md_init 173 = .ok (.newarray .int, 2) := by decide +kernel
theorem d_Md_init_175 : decode b_Md_init 175 = .ok (.putfield 44, 3) := by decide +kernel
theorem d_Md_init_178 : decode b_Md_init 178 = .ok (.aload_n 0, 1) := by decide +kernel
theorem d_Md_init_179 : decode b_Md_init 179 = .ok (.iconst 4, 1) := by decide +kernel
theorem d_Md_init_180 : decode b_Md_init 180 = .ok (.newarray .int, 2) := by decide +kernel
theorem d_Md_init_182 : decode b_Md_init 182 = .ok (.dup, 1) := by decide +kernel
theorem d_Md_init_183 : decode b_Md_init 183 = .ok (.iconst 0, 1) := by decide +kernel
theorem d_Md_init_184 : decode b_Md_init 184 = .ok (.iconst (-1), 1) := by decide +kernel
theorem d_Md_init_185 : decode b_Md_init 185 = .ok (.iastore, 1) := by decide +kernel
theorem d_Md_init_186 : decode b_Md_init 186 = .ok (.dup, 1) := by decide +kernel
theorem d_Md_init_187 : decode b_Md_init 187 = .ok (.iconst 1, 1) := by decide +kernel
theorem d_Md_init_188 : decode b_Md_init 188 = .ok (.iconst (-1), 1) := by decide +kernel
theorem d_Md_init_189 : decode b_Md_init 189 = .ok (.iastore, 1) := by decide +kernel
theorem d_Md_init_190 : decode b_Md_init 190 = .ok (.dup, 1) := by decide +kernel
theorem d_Md_init_191 : decode b_Md_init 191 = .ok (.iconst 2, 1) := by decide +kernel
theorem d_Md_init_192 : decode b_Md_init 192 = .ok (.iconst (-1), 1) := by decide +kernel
theorem d_Md_init_193 : decode b_Md_init 193 = .ok (.iastore, 1) := by decide +kernel
theorem d_Md_init_194 : decode b_Md_init 194 = .ok (.dup, 1) := by decide +kernel
theorem d_Md_init_195 : decode b_Md_init 195 = .ok (.iconst 3, 1) := by decide +kernel
theorem d_Md_init_196 : decode b_Md_init 196 = .ok (.iconst (-1), 1) := by decide +kernel
theorem d_Md_init_197 : decode b_Md_init 197 = .ok (.iastore, 1) := by decide +kernel
theorem d_Md_init_198 : decode b_Md_init 198 = .ok (.putfield 47, 3) := by decide +kernel
theorem d_Md_init_201 : decode b_Md_init 201 = .ok (.aload_n 0, 1) := by decide +kernel
theorem d_Md_init_202 : decode b_Md_init 202 = .ok (.bipush 48, 2) := by decide +kernel
theorem d_Md_init_204 : decode b_Md_init 204 = .ok (.newarray .int, 2) := by decide +kernel
theorem d_Md_init_206 : decode b_Md_init 206 = .ok (.putfield 50, 3) := by decide +kernel
theorem d_Md_init_209 : decode b_Md_init 209 = .ok (.return_, 1) := by decide +kernel
theorem d_Md_set_0 : decode b_Md_set 0 = .ok (.iload_n 1, 1) := by decide +kernel
theorem d_Md_set_1 : decode b_Md_set 1 = .ok (.iconst 0, 1) := by decide +kernel
theorem d_Md_set_2 : decode b_Md_set 2 = .ok (.bipush 7, 2) := by decide +kernel
theorem d_Md_set_4 : decode b_Md_set 4 = .ok (.invokestatic 57, 3) := by decide +kernel
theorem d_Md_set_7 : decode b_Md_set 7 = .ok (.ifCond .eq 30, 3) := by decide +kernel
theorem d_Md_set_10 : decode b_Md_set 10 = .ok (.iload_n 2, 1) := by decide +kernel
theorem d_Md_set_11 : decode b_Md_set 11 = .ok (.iconst 0, 1) := by decide +kernel
theorem d_Md_set_12 : decode b_Md_set 12 = .ok (.iload_n 1, 1) := by decide +kernel
theorem d_Md_set_13 : decode b_Md_set 13 = .ok (.ifCond .ne 7, 3) := by decide +kernel
theorem d_Md_set_16 : decode b_Md_set 16 = .ok (.iconst 0, 1) := by decide +kernel
theorem d_Md_set_17 : decode b_Md_set 17 = .ok (.goto 4, 3) := by decide +kernel
theorem d_Md_set_20 : decode b_Md_set 20 = .ok (.iconst 1, 1) := by decide +kernel
theorem d_Md_set_21 : decode b_Md_set 21 = .ok (.invokestatic 57, 3) := by decide +kernel
theorem d_Md_set_24 : decode b_Md_set 24 = .ok (.ifCond .eq 13, 3) := by decide +kernel
theorem d_Md_set_27 : decode b_Md_set 27 = .ok (.iload_n 3, 1) := by decide +kernel
theorem d_Md_set_28 : decode b_Md_set 28 = .ok (.iconst 1, 1) := by decide +kernel
theorem d_Md_set_29 : decode b_Md_set 29 = .ok (.ldc 61, 2) := by decide +kernel
theorem d_Md_set_31 : decode b_Md_set 31 = .ok (.invokestatic 57, 3) := by decide +kernel
theorem d_Md_set_34 : decode b_Md_set 34 = .ok (.ifCond .ne 5, 3) := by decide +kernel
theorem d_Md_set_37 : decode b_Md_set 37 = .ok (.iconst 0, 1) := by decide +kernel
theorem d_Md_set_38 : decode b_Md_set 38 = .ok (.ireturn, 1) := by decide +kernel
theorem d_Md_set_39 : decode b_Md_set 39 = .ok (.aload_n 0, 1) := by decide +kernel
theorem d_Md_set_40 : decode b_Md_set 40 = .ok (.getfield 16, 3) := by decide +kernel
theorem d_Md_set_43 : decode b_Md_set 43 = .ok (.iload_n 1, 1) := by decide +kernel
theorem d_Md_set_44 : decode b_Md_set 44 = .ok (.iload_n 2, 1) := by decide +kernel
theorem d_Md_set_45 : decode b_Md_set 45 = .ok (.iastore, 1) := by decide +kernel
theorem d_Md_set_46 : decode b_Md_set 46 = .ok (.aload_n 0, 1) := by decide +kernel
theorem d_Md_set_47 : decode b_Md_set 47 = .ok (.getfield 7, 3) := by decide +kernel
theorem d_Md_set_50 : decode b_Md_set 50 = .ok (.iload_n 1, 1) := by decide +kernel
theorem d_Md_set_51 : decode b_Md_set 51 = .ok (.iload_n 3, 1) := by decide +kernel
theorem d_Md_set_52 : decode b_Md_set 52 = .ok (.iastore, 1) := by decide +kernel
theorem d_Md_set_53 : decode b_Md_set 53 = .ok (.aload_n 0, 1) := by decide +kernel
theorem d_Md_set_54 : decode b_Md_set 54 = .ok (.getfield 13, 3) := by decide +kernel
theorem d_Md_set_57 : decode b_Md_set 57 = .ok (.iload_n 1, 1) := by decide +kernel
theorem d_Md_set_58 : decode b_Md_set 58 = .ok (.iload_n 3, 1) := by decide +kernel
theorem d_Md_set_59 : decode b_Md_set 59 = .ok (.iastore, 1) := by decide +kernel
theorem d_Md_set_60 : decode b_Md_set 60 = .ok (.aload_n 0, 1) := by decide +kernel
theorem d_Md_set_61 : decode b_Md_set 61 = .ok (.getfield 19, 3) := by decide +kernel
theorem d_Md_set_64 : decode b_Md_set 64 = .ok (.iload_n 1, 1) := by decide +kernel
theorem d_Md_set_65 : decode b_Md_set 65 = .ok (.iload 4, 2) := by decide +kernel
theorem d_Md_set_67 : decode b_Md_set 67 = .ok (.bastore, 1) := by decide +kernel
theorem d_Md_set_68 : decode b_Md_set 68 = .ok (.aload_n 0, 1) := by decide +kernel
theorem d_Md_set_69 : decode b_Md_set 69 = .ok (.getfield 23, 3) := by decide +kernel
theorem d_Md_set_72 : decode b_Md_set 72 = .ok (.iload_n 1, 1) := by decide +kernel
theorem d_Md_set_73 : decode b_Md_set 73 = .ok (.iconst 0, 1) := by decide +kernel
theorem d_Md_set_74 : decode b_Md_set 74 = .ok (.bastore, 1) := by decide +kernel
theorem d_Md_set_75 : decode b_Md_set 75 = .ok (.iconst 1, 1) := by decide +kernel
theorem d_Md_set_76 : decode b_Md_set 76 = .ok (.ireturn, 1) := by decide +kernel
theorem d_Md_isIn_0 : decode b_Md_isIn 0 = .ok (.iload_n 0, 1) := by decide +kernel
theorem d_Md_isIn_1 : decode b_Md_isIn 1 = .ok (.iload_n 1, 1) := by decide +kernel
theorem d_Md_isIn_2 : decode b_Md_isIn 2 = .ok (.if_icmp .lt 12, 3) := by decide +kernel
theorem d_Md_isIn_5 : decode b_Md_isIn 5 = .ok (.iload_n 0, 1) := by decide +kernel
theorem d_Md_isIn_6 : decode b_Md_isIn 6 = .ok (.iload_n 2, 1) := by decide +kernel
theorem d_Md_isIn_7 : decode b_Md_isIn 7 = .ok (.if_icmp .gt 7, 3) := by decide +kernel
theorem d_Md_isIn_10 : decode b_Md_isIn 10 = .ok (.iconst 1, 1) := by decide +kernel
theorem d_Md_isIn_11 : decode b_Md_isIn 11 = .ok (.goto 4, 3) := by decide +kernel
theorem d_Md_isIn_14 : decode b_Md_isIn 14 = .ok (.iconst 0, 1) := by decide +kernel
theorem d_Md_isIn_15 : decode b_Md_isIn 15 = .ok (.ireturn, 1) := by decide +kernel
theorem d_Md_turn_0 : decode b_Md_turn 0 = .ok (.iload_n 1, 1) := by decide +kernel
theorem d_Md_turn_1 : decode b_Md_turn 1 = .ok (.iconst 0, 1) := by decide +kernel
theorem d_Md_turn_2 : decode b_Md_turn 2 = .ok (.bipush 7, 2) := by decide +kernel
theorem d_Md_turn_4 : decode b_Md_turn 4 = .ok (.invokestatic 57, 3) := by decide +kernel
theorem d_Md_turn_7 : decode b_Md_turn 7 = .ok (.ifCond .eq 13, 3) := by decide +kernel
theorem d_Md_turn_10 : decode b_Md_turn 10 = .ok (.aload_n 0, 1) := by decide +kernel
theorem d_Md_turn_11 : decode b_Md_turn 11 = .ok (.getfield 23, 3) := by decide +kernel
theorem d_Md_turn_14 : decode b_Md_turn 14 = .ok (.iload_n 1, 1) := by decide +kernel
theorem d_Md_turn_15 : decode b_Md_turn 15 = .ok (.baload, 1) := by decide +kernel
theorem d_Md_turn_16 : decode b_Md_turn 16 = .ok (.iload_n 2, 1) := by decide +kernel
theorem d_Md_turn_17 : decode b_Md_turn 17 = .ok (.if_icmp .ne 5, 3) := by decide +kernel
theorem d_Md_turn_20 : decode b_Md_turn 20 = .ok (.iconst 0, 1) := by decide +kernel
theorem d_Md_turn_21 : decode b_Md_turn 21 = .ok (.ireturn, 1) := by decide +kernel
theorem d_Md_turn_22 : decode b_Md_turn 22 = .ok (.aload_n 0, 1) := by decide +kernel
theorem d_Md_turn_23 : decode b_Md_turn 23 = .ok (.getfield 23, 3) := by decide +kernel
theorem d_Md_turn_26 : decode b_Md_turn 26 = .ok (.iload_n 1, 1) := by decide +kernel
theorem d_Md_turn_27 : decode b_Md_turn 27 = .ok (.iload_n 2, 1) := by decide +kernel
theorem d_Md_turn_28 : decode b_Md_turn 28 = .ok (.bastore, 1) := by decide +kernel
theorem d_Md_turn_29 : decode b_Md_turn 29 = .ok (.iconst 1, 1) := by decide +kernel
theorem d_Md_turn_30 : decode b_Md_turn 30 = .ok (.ireturn, 1) := by decide +kernel
theorem d_Md_gate_0 : decode b_Md_gate 0 = .ok (.iload_n 1, 1) := by decide +kernel
theorem d_Md_gate_1 : decode b_Md_gate 1 = .ok (.iconst 0, 1) := by decide +kernel
theorem d_Md_gate_2 : decode b_Md_gate 2 = .ok (.iconst 3, 1) := by decide +kernel
theorem d_Md_gate_3 : decode b_Md_gate 3 = .ok (.invokestatic 57, 3) := by decide +kernel
theorem d_Md_gate_6 : decode b_Md_gate 6 = .ok (.ifCond .eq 25, 3) := by decide +kernel
theorem d_Md_gate_9 : decode b_Md_gate 9 = .ok (.iload_n 2, 1) := by decide +kernel
theorem d_Md_gate_10 : decode b_Md_gate 10 = .ok (.iconst 0, 1) := by decide +kernel
theorem d_Md_gate_11 : decode b_Md_gate 11 = .ok (.sipush 255, 3) := by decide +kernel
theorem d_Md_gate_14 : decode b_Md_gate 14 = .ok (.invokestatic 57, 3) := by decide +kernel
theorem d_Md_gate_17 : decode b_Md_gate 17 = .ok (.ifCond .eq 14, 3) := by decide +kernel
theorem d_Md_gate_20 : decode b_Md_gate 20 = .ok (.iload_n 3, 1) := by decide +kernel
theorem d_Md_gate_21 : decode b_Md_gate 21 = .ok (.iconst 1, 1) := by decide +kernel
theorem d_Md_gate_22 : decode b_Md_gate 22 = .ok (.sipush 1000, 3) := by decide +kernel
theorem d_Md_gate_25 : decode b_Md_gate 25 = .ok (.invokestatic 57, 3) := by decide +kernel
theorem d_Md_gate_28 : decode b_Md_gate 28 = .ok (.ifCond .ne 5, 3) := by decide +kernel
theorem d_Md_gate_31 : decode b_Md_gate 31 = .ok (.iconst 0, 1) := by decide +kernel
theorem d_Md_gate_32 : decode b_Md_gate 32 = .ok (.ireturn, 1) := by decide +kernel
theorem d_Md_gate_33 : decode b_Md_gate 33 = .ok (.aload_n 0, 1) := by decide +kernel
theorem d_Md_gate_34 : decode b_Md_gate 34 = .ok (.getfield 29, 3) := by decide +kernel
theorem d_Md_gate_37 : decode b_Md_gate 37 = .ok (.iload_n 1, 1) := by decide +kernel
theorem d_Md_gate_38 : decode b_Md_gate 38 = .ok (.iload_n 2, 1) := by decide +kernel
theorem d_Md_gate_39 : decode b_Md_gate 39 = .ok (.iastore, 1) := by decide +kernel
theorem d_Md_gate_40 : decode b_Md_gate 40 = .ok (.aload_n 0, 1) := by decide +kernel
theorem d_Md_gate_41 : decode b_Md_gate 41 = .ok (.getfield 32, 3) := by decide +kernel
theorem d_Md_gate_44 : decode b_Md_gate 44 = .ok (.iload_n 1, 1) := by decide +kernel
theorem d_Md_gate_45 : decode b_Md_gate 45 = .ok (.iload_n 3, 1) := by decide +kernel
theorem d_Md_gate_46 : decode b_Md_gate 46 = .ok (.iastore, 1) := by decide +kernel
theorem d_Md_gate_47 : decode b_Md_gate 47 = .ok (.iconst 1, 1) := by decide +kernel
theorem d_Md_gate_48 : decode b_Md_gate 48 = .ok (.ireturn, 1) := by decide +kernel
theorem d_Md_clear_0 : decode b_Md_clear 0 = .ok (.iload_n 1, 1) := by decide +kernel
theorem d_Md_clear_1 : decode b_Md_clear 1 = .ok (.iconst 0, 1) := by decide +kernel
theorem d_Md_clear_2 : decode b_Md_clear 2 = .ok (.sipush 255, 3) := by decide +kernel
theorem d_Md_clear_5 : decode b_Md_clear 5 = .ok (.invokestatic 57, 3) := by decide +kernel
theorem d_Md_clear_8 : decode b_Md_clear 8 = .ok (.ifCond .ne 5, 3) := by decide +kernel
theorem d_Md_clear_11 : decode b_Md_clear 11 = .ok (.iconst (-1), 1) := by decide +kernel
theorem d_Md_clear_12 : decode b_Md_clear 12 = .ok (.ireturn, 1) := by decide +kernel
theorem d_Md_clear_13 : decode b_Md_clear 13 = .ok (.aload_n 0, 1) := by decide +kernel
theorem d_Md_clear_14 : decode b_Md_clear 14 = .ok (.getfield 62, 3) := by decide +kernel
theorem d_Md_clear_17 : decode b_Md_clear 17 = .ok (.iload_n 1, 1) := by decide +kernel
theorem d_Md_clear_18 : decode b_Md_clear 18 = .ok (.iand, 1) := by decide +kernel
theorem d_Md_clear_19 : decode b_Md_clear 19 = .ok (.istore_n 2, 1) := by decide +kernel
theorem d_Md_clear_20 : decode b_Md_clear 20 = .ok (.iconst 0, 1) := by decide +kernel
theorem d_Md_clear_21 : decode b_Md_clear 21 = .ok (.istore_n 3, 1) := by decide +kernel
theorem d_Md_clear_22 : decode b_Md_clear 22 = .ok (.iload_n 3, 1) := by decide +kernel
theorem d_Md_clear_23 : decode b_Md_clear 23 = .ok (.bipush 8, 2) := by decide +kernel
theorem d_Md_clear_25 : decode b_Md_clear 25 = .ok (.if_icmp .ge 27, 3) := by decide +kernel
theorem d_Md_clear_28 : decode b_Md_clear 28 = .ok (.aload_n 0, 1) := by decide +kernel
theorem d_Md_clear_29 : decode b_Md_clear 29 = .ok (.getfield 26, 3) := by decide +kernel
theorem d_Md_clear_32 : decode b_Md_clear 32 = .ok (.iconst 4, 1) := by decide +kernel
theorem d_Md_clear_33 : decode b_Md_clear 33 = .ok (.iload_n 3, 1) := by decide +kernel
theorem d_Md_clear_34 : decode b_Md_clear 34 = .ok (.imul, 1) := by decide +kernel
theorem d_Md_clear_35 : decode b_Md_clear 35 = .ok (.iconst 3, 1) := by decide +kernel
theorem d_Md_clear_36 : decode b_Md_clear 36 = .ok (.iadd, 1) := by decide +kernel
theorem d_Md_clear_37 : decode b_Md_clear 37 = .ok (.dup2, 1) := by decide +kernel
theorem d_Md_clear_38 : decode b_Md_clear 38 = .ok (.iaload, 1) := by decide +kernel
theorem d_Md_clear_39 : decode b_Md_clear 39 = .ok (.iload_n 2, 1) := by decide +kernel
theorem d_Md_clear_40 : decode b_Md_clear 40 = .ok (.iload_n 3, 1) := by decide +kernel
theorem d_Md_clear_41 : decode b_Md_clear 41 = .ok (.ishr, 1) := by decide +kernel
theorem d_Md_clear_42 : decode b_Md_clear 42 = .ok (.iconst 1, 1) := by decide +kernel
theorem d_Md_clear_43 : decode b_Md_clear 43 = .ok (.iand, 1) := by decide +kernel
theorem d_Md_clear_44 : decode b_Md_clear 44 = .ok (.iadd, 1) := by decide +kernel
theorem d_Md_clear_45 : decode b_Md_clear 45 = .ok (.iastore, 1) := by decide +kernel
theorem d_Md_clear_46 : decode b_Md_clear 46 = .ok (.iinc 3 1, 3) := by decide +kernel
theorem d_Md_clear_49 : decode b_Md_clear 49 = .ok (.goto (-27), 3) := by decide +kernel
theorem d_Md_clear_52 : decode b_Md_clear 52 = .ok (.aload_n 0, 1) := by decide +kernel
theorem d_Md_clear_53 : decode b_Md_clear 53 = .ok (.dup, 1) := by decide +kernel
theorem d_Md_clear_54 : decode b_Md_clear 54 = .ok (.getfield 62, 3) := by decide +kernel
theorem d_Md_clear_57 : decode b_Md_clear 57 = .ok (.iload_n 2, 1) := by decide +kernel
theorem d_Md_clear_58 : decode b_Md_clear 58 = .ok (.isub, 1) := by decide +kernel
theorem d_Md_clear_59 : decode b_Md_clear 59 = .ok (.putfield 62, 3) := by decide +kernel
theorem d_Md_clear_62 : decode b_Md_clear 62 = .ok (.iload_n 2, 1) := by decide +kernel
theorem d_Md_clear_63 : decode b_Md_clear 63 = .ok (.ireturn, 1) := by decide +kernel
theorem d_Md_advance_0 : decode b_Md_advance 0 = .ok (.iload_n 1, 1) := by decide +kernel
theorem d_Md_advance_1 : decode b_Md_advance 1 = .ok (.iconst 0, 1) := by decide +kernel
theorem d_Md_advance_2 : decode b_Md_advance 2 = .ok (.sipush 20000, 3) := by decide +kernel
theorem d_Md_advance_5 : decode b_Md_advance 5 = .ok (.invokestatic 57, 3) := by decide +kernel
theorem d_Md_advance_8 : decode b_Md_advance 8 = .ok (.ifCond .ne 5, 3) := by decide +kernel
theorem d_Md_advance_11 : decode b_Md_advance 11 = .ok (.iconst (-1), 1) := by decide +kernel
theorem d_Md_advance_12 : decode b_Md_advance 12 = .ok (.ireturn, 1) := by decide +kernel
theorem d_Md_advance_13 : decode b_Md_advance 13 = .ok (.aload_n 0, 1) := by decide +kernel
theorem d_Md_advance_14 : decode b_Md_advance 14 = .ok (.getfield 72, 3) := by decide +kernel
theorem d_Md_advance_17 : decode b_Md_advance 17 = .ok (.istore_n 2, 1) := by decide +kernel
theorem d_Md_advance_18 : decode b_Md_advance 18 = .ok (.iconst 0, 1) := by decide +kernel
theorem d_Md_advance_19 : decode b_Md_advance 19 = .ok (.istore_n 3, 1) := by decide +kernel
theorem d_Md_advance_20 : decode b_Md_advance 20 = .ok (.iload_n 3, 1) := by decide +kernel
theorem d_Md_advance_21 : decode b_Md_advance 21 = .ok (.iload_n 1, 1) := by decide +kernel
theorem d_Md_advance_22 : decode b_Md_advance 22 = .ok (.if_icmp .ge 13, 3) := by decide +kernel
theorem d_Md_advance_25 : decode b_Md_advance 25 = .ok (.aload_n 0, 1) := by decide +kernel
theorem d_Md_advance_26 : decode b_Md_advance 26 = .ok (.invokevirtual 82, 3) := by decide +kernel
theorem d_Md_advance_29 : decode b_Md_advance 29 = .ok (.iinc 3 1, 3) := by decide +kernel
theorem d_Md_advance_32 : decode b_Md_advance 32 = .ok (.goto (-12), 3) := by decide +kernel
theorem d_Md_advance_35 : decode b_Md_advance 35 = .ok (.aload_n 0, 1) := by decide +kernel
theorem d_Md_advance_36 : decode b_Md_advance 36 = .ok (.getfield 72, 3) := by decide +kernel
theorem d_Md_advance_39 : decode b_Md_advance 39 = .ok (.iload_n 2, 1) := by decide +kernel
theorem d_Md_advance_40 : decode b_Md_advance 40 = .ok (.isub, 1) := by decide +kernel
theorem d_Md_advance_41 : decode b_Md_advance 41 = .ok (.ireturn, 1) := by decide +kernel
theorem d_Md_tick_0 : decode b_Md_tick 0 = .ok (.aload_n 0, 1) := by decide +kernel
theorem d_Md_tick_1 : decode b_Md_tick 1 = .ok (.dup, 1) := by decide +kernel
theorem d_Md_tick_2 : decode b_Md_tick 2 = .ok (.getfield 69, 3) := by decide +kernel
theorem d_Md_tick_5 : decode b_Md_tick 5 = .ok (.iconst 1, 1) := by decide +kernel
theorem d_Md_tick_6 : decode b_Md_tick 6 = .ok (.iadd, 1) := by decide +kernel
theorem d_Md_tick_7 : decode b_Md_tick 7 = .ok (.putfield 69, 3) := by decide +kernel
theorem d_Md_tick_10 : decode b_Md_tick 10 = .ok (.iconst 0, 1) := by decide +kernel
theorem d_Md_tick_11 : decode b_Md_tick 11 = .ok (.istore_n 1, 1) := by decide +kernel
theorem d_Md_tick_12 : decode b_Md_tick 12 = .ok (.iconst 0, 1) := by decide +kernel
theorem d_Md_tick_13 : decode b_Md_tick 13 = .ok (.istore_n 2, 1) := by decide +kernel
theorem d_Md_tick_14 : decode b_Md_tick 14 = .ok (.iload_n 2, 1) := by decide +kernel
theorem d_Md_tick_15 : decode b_Md_tick 15 = .ok (.bipush 8, 2) := by decide +kernel
theorem d_Md_tick_17 : decode b_Md_tick 17 = .ok (.if_icmp .ge 36, 3) := by decide +kernel
theorem d_Md_tick_20 : decode b_Md_tick 20 = .ok (.aload_n 0, 1) := by decide +kernel
theorem d_Md_tick_21 : decode b_Md_tick 21 = .ok (.getfield 16, 3) := by decide +kernel
theorem d_Md_tick_24 : decode b_Md_tick 24 = .ok (.iload_n 2, 1) := by decide +kernel
theorem d_Md_tick_25 : decode b_Md_tick 25 = .ok (.iaload, 1) := by decide +kernel
theorem d_Md_tick_26 : decode b_Md_tick 26 = .ok (.ifCond .eq 7, 3) := by decide +kernel
theorem d_Md_tick_29 : decode b_Md_tick 29 = .ok (.iload_n 1, 1) := by decide +kernel
theorem d_Md_tick_30 : decode b_Md_tick 30 = .ok (.ifCond .eq 15, 3) := by decide +kernel
theorem d_Md_tick_33 : decode b_Md_tick 33 = .ok (.aload_n 0, 1) := by decide +kernel
theorem d_Md_tick_34 : decode b_Md_tick 34 = .ok (.iload_n 2, 1) := by decide +kernel
theorem d_Md_tick_35 : decode b_Md_tick 35 = .ok (.invokevirtual 75, 3) := by decide +kernel
theorem d_Md_tick_38 : decode b_Md_tick 38 = .ok (.ifCond .eq 7, 3) := by decide +kernel
theorem d_Md_tick_41 : decode b_Md_tick 41 = .ok (.iconst 1, 1) := by decide +kernel
theorem d_Md_tick_42 : decode b_Md_tick 42 = .ok (.goto 4, 3) := by decide +kernel
theorem d_Md_tick_45 : decode b_Md_tick 45 = .ok (.iconst 0, 1) := by decide +kernel
theorem d_Md_tick_46 : decode b_Md_tick 46 = .ok (.istore_n 1, 1) := by decide +kernel
theorem d_Md_tick_47 : decode b_Md_tick 47 = .ok (.iinc 2 1, 3) := by decide +kernel
theorem d_Md_tick_50 : decode b_Md_tick 50 = .ok (.goto (-36), 3) := by decide +kernel
theorem d_Md_tick_53 : decode b_Md_tick 53 = .ok (.iconst 0, 1) := by decide +kernel
theorem d_Md_tick_54 : decode b_Md_tick 54 = .ok (.istore_n 2, 1) := by decide +kernel
theorem d_Md_tick_55 : decode b_Md_tick 55 = .ok (.iload_n 2, 1) := by decide +kernel
theorem d_Md_tick_56 : decode b_Md_tick 56 = .ok (.iconst 4, 1) := by decide +kernel
theorem d_Md_tick_57 : decode b_Md_tick 57 = .ok (.if_icmp .ge 63, 3) := by decide +kernel
theorem d_Md_tick_60 : decode b_Md_tick 60 = .ok (.aload_n 0, 1) := by decide +kernel
theorem d_Md_tick_61 : decode b_Md_tick 61 = .ok (.getfield 38, 3) := by decide +kernel
theorem d_Md_tick_64 : decode b_Md_tick 64 = .ok (.iload_n 2, 1) := by decide +kernel
theorem d_Md_tick_65 : decode b_Md_tick 65 = .ok (.aload_n 0, 1) := by decide +kernel
theorem d_Md_tick_66 : decode b_Md_tick 66 = .ok (.getfield 35, 3) := by decide +kernel
theorem d_Md_tick_69 : decode b_Md_tick 69 = .ok (.iload_n 2, 1) := by decide +kernel
theorem d_Md_tick_70 : decode b_Md_tick 70 = .ok (.iaload, 1) := by decide +kernel
theorem d_Md_tick_71 : decode b_Md_tick 71 = .ok (.iconst 1, 1) := by decide +kernel
theorem d_Md_tick_72 : decode b_Md_tick 72 = .ok (.if_icmp .ne 7, 3) := by decide +kernel
theorem d_Md_tick_75 : decode b_Md_tick 75 = .ok (.iconst 1, 1) := by decide +kernel
theorem d_Md_tick_76 : decode b_Md_tick 76 = .ok (.goto 4, 3) := by decide +kernel
theorem d_Md_tick_79 : decode b_Md_tick 79 = .ok (.iconst 0, 1) := by decide +kernel
theorem d_Md_tick_80 : decode b_Md_tick 80 = .ok (.bastore, 1) := by decide +kernel
theorem d_Md_tick_81 : decode b_Md_tick 81 = .ok (.aload_n 0, 1) := by decide +kernel
theorem d_Md_tick_82 : decode b_Md_tick 82 = .ok (.getfield 35, 3) := by decide +kernel
theorem d_Md_tick_85 : decode b_Md_tick 85 = .ok (.iload_n 2, 1) := by decide +kernel
theorem d_Md_tick_86 : decode b_Md_tick 86 = .ok (.iaload, 1) := by decide +kernel
theorem d_Md_tick_87 : decode b_Md_tick 87 = .ok (.ifCond .le 13, 3) := by decide +kernel
theorem d_Md_tick_90 : decode b_Md_tick 90 = .ok (.aload_n 0, 1) := by decide +kernel
theorem d_Md_tick_91 : decode b_Md_tick 91 = .ok (.getfield 35, 3) := by decide +kernel
theorem d_Md_tick_94 : decode b_Md_tick 94 = .ok (.iload_n 2, 1) := by decide +kernel
theorem d_Md_tick_95 : decode b_Md_tick 95 = .ok (.dup2, 1) := by decide +kernel
theorem d_Md_tick_96 : decode b_Md_tick 96 = .ok (.iaload, 1) := by decide +kernel
theorem d_Md_tick_97 : decode b_Md_tick 97 = .ok (.iconst 1, 1) := by decide +kernel
theorem d_Md_tick_98 : decode b_Md_tick 98 = .ok (.isub, 1) := by decide +kernel
theorem d_Md_tick_99 : decode b_Md_tick 99 = .ok (.iastore, 1) := by decide +kernel
theorem d_Md_tick_100 : decode b_Md_tick 100 = .ok (.aload_n 0, 1) := by decide +kernel
theorem d_Md_tick_101 : decode b_Md_tick 101 = .ok (.getfield 38, 3) := by decide +kernel
theorem d_Md_tick_104 : decode b_Md_tick 104 = .ok (.iload_n 2, 1) := by decide +kernel
theorem d_Md_tick_105 : decode b_Md_tick 105 = .ok (.baload, 1) := by decide +kernel
theorem d_Md_tick_106 : decode b_Md_tick 106 = .ok (.ifCond .eq 8, 3) := by decide +kernel
theorem d_Md_tick_109 : decode b_Md_tick 109 = .ok (.aload_n 0, 1) := by decide +kernel
theorem d_Md_tick_110 : decode b_Md_tick 110 = .ok (.iload_n 2, 1) := by decide +kernel
theorem d_Md_tick_111 : decode b_Md_tick 111 = .ok (.invokevirtual 78, 3) := by decide +kernel
theorem d_Md_tick_114 : decode b_Md_tick 114 = .ok (.iinc 2 1, 3) := by decide +kernel
theorem d_Md_tick_117 : decode b_Md_tick 117 = .ok (.goto (-62), 3) := by decide +kernel
theorem d_Md_tick_120 : decode b_Md_tick 120 = .ok (.iconst 0, 1) := by decide +kernel
theorem d_Md_tick_121 : decode b_Md_tick 121 = .ok (.istore_n 2, 1) := by decide +kernel
theorem d_Md_tick_122 : decode b_Md_tick 122 = .ok (.iload_n 2, 1) := by decide +kernel
theorem d_Md_tick_123 : decode b_Md_tick 123 = .ok (.iconst 4, 1) := by decide +kernel
theorem d_Md_tick_124 : decode b_Md_tick 124 = .ok (.if_icmp .ge 38, 3) := by decide +kernel
theorem d_Md_tick_127 : decode b_Md_tick 127 = .ok (.aload_n 0, 1) := by decide +kernel
theorem d_Md_tick_128 : decode b_Md_tick 128 = .ok (.getfield 35, 3) := by decide +kernel
theorem d_Md_tick_131 : decode b_Md_tick 131 = .ok (.iload_n 2, 1) := by decide +kernel
theorem d_Md_tick_132 : decode b_Md_tick 132 = .ok (.iaload, 1) := by decide +kernel
theorem d_Md_tick_133 : decode b_Md_tick 133 = .ok (.ifCond .ne 23, 3) := by decide +kernel
theorem d_Md_tick_136 : decode b_Md_tick 136 = .ok (.aload_n 0, 1) := by decide +kernel
theorem d_Md_tick_137 : decode b_Md_tick 137 = .ok (.iload_n 2, 1) := by decide +kernel
theorem d_Md_tick_138 : decode b_Md_tick 138 = .ok (.invokevirtual 65, 3) := by decide +kernel
theorem d_Md_tick_141 : decode b_Md_tick 141 = .ok (.ifCond .eq 15, 3) := by decide +kernel
theorem d_Md_tick_144 : decode b_Md_tick 144 = .ok (.aload_n 0, 1) := by decide +kernel
theorem d_Md_tick_145 : decode b_Md_tick 145 = .ok (.getfield 35, 3) := by decide +kernel
theorem d_Md_tick_148 : decode b_Md_tick 148 = .ok (.iload_n 2, 1) := by decide +kernel
theorem d_Md_tick_149 : decode b_Md_tick 149 = .ok (.aload_n 0, 1) := by decide +kernel
theorem d_Md_tick_150 : decode b_Md_tick 150 = .ok (.getfield 32, 3) := by decide +kernel
theorem d_Md_tick_153 : decode b_Md_tick 153 = .ok (.iload_n 2, 1) := by decide +kernel
theorem d_Md_tick_154 : decode b_Md_tick 154 = .ok (.iaload, 1) := by decide +kernel
theorem d_Md_tick_155 : decode b_Md_tick 155 = .ok (.iastore, 1) := by decide +kernel
theorem d_Md_tick_156 : decode b_Md_tick 156 = .ok (.iinc 2 1, 3) := by decide +kernel
theorem d_Md_tick_159 : decode b_Md_tick 159 = .ok (.goto (-37), 3) := by decide +kernel
theorem d_Md_tick_162 : decode b_Md_tick 162 = .ok (.return_, 1) := by decide +kernel
theorem d_Md_event_0 : decode b_Md_event 0 = .ok (.aload_n 0, 1) := by decide +kernel
theorem d_Md_event_1 : decode b_Md_event 1 = .ok (.getfield 23, 3) := by decide +kernel
theorem d_Md_event_4 : decode b_Md_event 4 = .ok (.iload_n 1, 1) := by decide +kernel
theorem d_Md_event_5 : decode b_Md_event 5 = .ok (.baload, 1) := by decide +kernel
theorem d_Md_event_6 : decode b_Md_event 6 = .ok (.ifCond .ne 5, 3) := by decide +kernel
theorem d_Md_event_9 : decode b_Md_event 9 = .ok (.iconst 0, 1) := by decide +kernel
theorem d_Md_event_10 : decode b_Md_event 10 = .ok (.ireturn, 1) := by decide +kernel
theorem d_Md_event_11 : decode b_Md_event 11 = .ok (.aload_n 0, 1) := by decide +kernel
theorem d_Md_event_12 : decode b_Md_event 12 = .ok (.getfield 13, 3) := by decide +kernel
theorem d_Md_event_15 : decode b_Md_event 15 = .ok (.iload_n 1, 1) := by decide +kernel
theorem d_Md_event_16 : decode b_Md_event 16 = .ok (.dup2, 1) := by decide +kernel
theorem d_Md_event_17 : decode b_Md_event 17 = .ok (.iaload, 1) := by decide +kernel
theorem d_Md_event_18 : decode b_Md_event 18 = .ok (.iconst 1, 1) := by decide +kernel
theorem d_Md_event_19 : decode b_Md_event 19 = .ok (.isub, 1) := by decide +kernel
theorem d_Md_event_20 : decode b_Md_event 20 = .ok (.iastore, 1) := by decide +kernel
theorem d_Md_event_21 : decode b_Md_event 21 = .ok (.aload_n 0, 1) := by decide +kernel
theorem d_Md_event_22 : decode b_Md_event 22 = .ok (.getfield 13, 3) := by decide +kernel
theorem d_Md_event_25 : decode b_Md_event 25 = .ok (.iload_n 1, 1) := by decide +kernel
theorem d_Md_event_26 : decode b_Md_event 26 = .ok (.iaload, 1) := by decide +kernel
theorem d_Md_event_27 : decode b_Md_event 27 = .ok (.ifCond .le 5, 3) := by decide +kernel
theorem d_Md_event_30 : decode b_Md_event 30 = .ok (.iconst 0, 1) := by decide +kernel
theorem d_Md_event_31 : decode b_Md_event 31 = .ok (.ireturn, 1) := by decide +kernel
theorem d_Md_event_32 : decode b_Md_event 32 = .ok (.aload_n 0, 1) := by decide +kernel
theorem d_Md_event_33 : decode b_Md_event 33 = .ok (.getfield 13, 3) := by decide +kernel
theorem d_Md_event_36 : decode b_Md_event 36 = .ok (.iload_n 1, 1) := by decide +kernel
theorem d_Md_event_37 : decode b_Md_event 37 = .ok (.aload_n 0, 1) := by decide +kernel
theorem d_Md_event_38 : decode b_Md_event 38 = .ok (.getfield 7, 3) := by decide +kernel
theorem d_Md_event_41 : decode b_Md_event 41 = .ok (.iload_n 1, 1) := by decide +kernel
theorem d_Md_event_42 : decode b_Md_event 42 = .ok (.iaload, 1) := by decide +kernel
theorem d_Md_event_43 : decode b_Md_event 43 = .ok (.iastore, 1) := by decide +kernel
theorem d_Md_event_44 : decode b_Md_event 44 = .ok (.aload_n 0, 1) := by decide +kernel
theorem d_Md_event_45 : decode b_Md_event 45 = .ok (.getfield 23, 3) := by decide +kernel
theorem d_Md_event_48 : decode b_Md_event 48 = .ok (.iload_n 1, 1) := by decide +kernel
theorem d_Md_event_49 : decode b_Md_event 49 = .ok (.aload_n 0, 1) := by decide +kernel
theorem d_Md_event_50 : decode b_Md_event 50 = .ok (.getfield 19, 3) := by decide +kernel
theorem d_Md_event_53 : decode b_Md_event 53 = .ok (.iload_n 1, 1) := by decide +kernel
theorem d_Md_event_54 : decode b_Md_event 54 = .ok (.baload, 1) := by decide +kernel
theorem d_Md_event_55 : decode b_Md_event 55 = .ok (.ifCond .ne 7, 3) := by decide +kernel
theorem d_Md_event_58 : decode b_Md_event 58 = .ok (.iconst 1, 1) := by decide +kernel
theorem d_Md_event_59 : decode b_Md_event 59 = .ok (.goto 4, 3) := by decide +kernel
theorem d_Md_event_62 : decode b_Md_event 62 = .ok (.iconst 0, 1) := by decide +kernel
theorem d_Md_event_63 : decode b_Md_event 63 = .ok (.bastore, 1) := by decide +kernel
theorem d_Md_event_64 : decode b_Md_event 64 = .ok (.aload_n 0, 1) := by decide +kernel
theorem d_Md_event_65 : decode b_Md_event 65 = .ok (.getfield 26, 3) := by decide +kernel
theorem d_Md_event_68 : decode b_Md_event 68 = .ok (.iconst 4, 1) := by decide +kernel
theorem d_Md_event_69 : decode b_Md_event 69 = .ok (.iload_n 1, 1) := by decide +kernel
theorem d_Md_event_70 : decode b_Md_event 70 = .ok (.imul, 1) := by decide +kernel
theorem d_Md_event_71 : decode b_Md_event 71 = .ok (.dup2, 1) := by decide +kernel
theorem d_Md_event_72 : decode b_Md_event 72 = .ok (.iaload, 1) := by decide +kernel
theorem d_Md_event_73 : decode b_Md_event 73 = .ok (.iconst 1, 1) := by decide +kernel
theorem d_Md_event_74 : decode b_Md_event 74 = .ok (.iadd, 1) := by decide +kernel
theorem d_Md_event_75 : decode b_Md_event 75 = .ok (.iastore, 1) := by decide +kernel
theorem d_Md_event_76 : decode b_Md_event 76 = .ok (.aload_n 0, 1) := by decide +kernel
theorem d_Md_event_77 : decode b_Md_event 77 = .ok (.getfield 26, 3) := by decide +kernel
theorem d_Md_event_80 : decode b_Md_event 80 = .ok (.iconst 4, 1) := by decide +kernel
theorem d_Md_event_81 : decode b_Md_event 81 = .ok (.iload_n 1, 1) := by decide +kernel
theorem d_Md_event_82 : decode b_Md_event 82 = .ok (.imul, 1) := by decide +kernel
theorem d_Md_event_83 : decode b_Md_event 83 = .ok (.iconst 1, 1) := by decide +kernel
theorem d_Md_event_84 : decode b_Md_event 84 = .ok (.iadd, 1) := by decide +kernel
theorem d_Md_event_85 : decode b_Md_event 85 = .ok (.dup2, 1) := by decide +kernel
theorem d_Md_event_86 : decode b_Md_event 86 = .ok (.iaload, 1) := by decide +kernel
theorem d_Md_event_87 : decode b_Md_event 87 = .ok (.aload_n 0, 1) := by decide +kernel
theorem d_Md_event_88 : decode b_Md_event 88 = .ok (.getfield 62, 3) := by decide +kernel
theorem d_Md_event_91 : decode b_Md_event 91 = .ok (.iload_n 1, 1) := by decide +kernel
theorem d_Md_event_92 : decode b_Md_event 92 = .ok (.ishr, 1) := by decide +kernel
theorem d_Md_event_93 : decode b_Md_event 93 = .ok (.iconst 1, 1) := by decide +kernel
theorem d_Md_event_94 : decode b_Md_event 94 = .ok (.iand, 1) := by decide +kernel
theorem d_Md_event_95 : decode b_Md_event 95 = .ok (.iadd, 1) := by decide +kernel
theorem d_Md_event_96 : decode b_Md_event 96 = .ok (.iastore, 1) := by decide +kernel
theorem d_Md_event_97 : decode b_Md_event 97 = .ok (.aload_n 0, 1) := by decide +kernel
theorem d_Md_event_98 : decode b_Md_event 98 = .ok (.dup, 1) := by decide +kernel
theorem d_Md_event_99 : decode b_Md_event 99 = .ok (.getfield 62, 3) := by decide +kernel
theorem d_Md_event_102 : decode b_Md_event 102 = .ok (.iconst 1, 1) := by decide +kernel
theorem d_Md_event_103 : decode b_Md_event 103 = .ok (.iload_n 1, 1) := by decide +kernel
theorem d_Md_event_104 : decode b_Md_event 104 = .ok (.ishl, 1) := by decide +kernel
theorem d_Md_event_105 : decode b_Md_event 105 = .ok (.ior, 1) := by decide +kernel
theorem d_Md_event_106 : decode b_Md_event 106 = .ok (.putfield 62, 3) := by decide +kernel
theorem d_Md_event_109 : decode b_Md_event 109 = .ok (.iconst 1, 1) := by decide +kernel
theorem d_Md_event_110 : decode b_Md_event 110 = .ok (.ireturn, 1) := by decide +kernel
theorem d_Md_serve_0 : decode b_Md_serve 0 = .ok (.aload_n 0, 1) := by decide +kernel
theorem d_Md_serve_1 : decode b_Md_serve 1 = .ok (.iload_n 1, 1) := by decide +kernel
theorem d_Md_serve_2 : decode b_Md_serve 2 = .ok (.invokevirtual 65, 3) := by decide +kernel
theorem d_Md_serve_5 : decode b_Md_serve 5 = .ok (.ifCond .ne 14, 3) := by decide +kernel
theorem d_Md_serve_8 : decode b_Md_serve 8 = .ok (.aload_n 0, 1) := by decide +kernel
theorem d_Md_serve_9 : decode b_Md_serve 9 = .ok (.getfield 44, 3) := by decide +kernel
theorem d_Md_serve_12 : decode b_Md_serve 12 = .ok (.iload_n 1, 1) := by decide +kernel
theorem d_Md_serve_13 : decode b_Md_serve 13 = .ok (.dup2, 1) := by decide +kernel
theorem d_Md_serve_14 : decode b_Md_serve 14 = .ok (.iaload, 1) := by decide +kernel
theorem d_Md_serve_15 : decode b_Md_serve 15 = .ok (.iconst 1, 1) := by decide +kernel
theorem d_Md_serve_16 : decode b_Md_serve 16 = .ok (.iadd, 1) := by decide +kernel
theorem d_Md_serve_17 : decode b_Md_serve 17 = .ok (.iastore, 1) := by decide +kernel
theorem d_Md_serve_18 : decode b_Md_serve 18 = .ok (.return_, 1) := by decide +kernel
theorem d_Md_serve_19 : decode b_Md_serve 19 = .ok (.iconst 0, 1) := by decide +kernel
theorem d_Md_serve_20 : decode b_Md_serve 20 = .ok (.istore_n 2, 1) := by decide +kernel
theorem d_Md_serve_21 : decode b_Md_serve 21 = .ok (.aload_n 0, 1) := by decide +kernel
theorem d_Md_serve_22 : decode b_Md_serve 22 = .ok (.getfield 62, 3) := by decide +kernel
theorem d_Md_serve_25 : decode b_Md_serve 25 = .ok (.aload_n 0, 1) := by decide +kernel
theorem d_Md_serve_26 : decode b_Md_serve 26 = .ok (.getfield 29, 3) := by decide +kernel
theorem d_Md_serve_29 : decode b_Md_serve 29 = .ok (.iload_n 1, 1) := by decide +kernel
theorem d_Md_serve_30 : decode b_Md_serve 30 = .ok (.iaload, 1) := by decide +kernel
theorem d_Md_serve_31 : decode b_Md_serve 31 = .ok (.iand, 1) := by decide +kernel
theorem d_Md_serve_32 : decode b_Md_serve 32 = .ok (.iconst 1, 1) := by decide +kernel
theorem d_Md_serve_33 : decode b_Md_serve 33 = .ok (.iload_n 2, 1) := by decide +kernel
theorem d_Md_serve_34 : decode b_Md_serve 34 = .ok (.ishl, 1) := by decide +kernel
theorem d_Md_serve_35 : decode b_Md_serve 35 = .ok (.iand, 1) := by decide +kernel
theorem d_Md_serve_36 : decode b_Md_serve 36 = .ok (.ifCond .ne 9, 3) := by decide +kernel
theorem d_Md_serve_39 : decode b_Md_serve 39 = .ok (.iinc 2 1, 3) := by decide +kernel
theorem d_Md_serve_42 : decode b_Md_serve 42 = .ok (.goto (-21), 3) := by decide +kernel
theorem d_Md_serve_45 : decode b_Md_serve 45 = .ok (.aload_n 0, 1) := by decide +kernel
theorem d_Md_serve_46 : decode b_Md_serve 46 = .ok (.dup, 1) := by decide +kernel
theorem d_Md_serve_47 : decode b_Md_serve 47 = .ok (.getfield 62, 3) := by decide +kernel
theorem d_Md_serve_50 : decode b_Md_serve 50 = .ok (.iconst 1, 1) := by decide +kernel
theorem d_Md_serve_51 : decode b_Md_serve 51 = .ok (.iload_n 2, 1) := by decide +kernel
theorem d_Md_serve_52 : decode b_Md_serve 52 = .ok (.ishl, 1) := by decide +kernel
theorem d_Md_serve_53 : decode b_Md_serve 53 = .ok (.isub, 1) := by decide +kernel
theorem d_Md_serve_54 : decode b_Md_serve 54 = .ok (.putfield 62, 3) := by decide +kernel
theorem d_Md_serve_57 : decode b_Md_serve 57 = .ok (.aload_n 0, 1) := by decide +kernel
theorem d_Md_serve_58 : decode b_Md_serve 58 = .ok (.getfield 26, 3) := by decide +kernel
theorem d_Md_serve_61 : decode b_Md_serve 61 = .ok (.iconst 4, 1) := by decide +kernel
theorem d_Md_serve_62 : decode b_Md_serve 62 = .ok (.iload_n 2, 1) := by decide +kernel
theorem d_Md_serve_63 : decode b_Md_serve 63 = .ok (.imul, 1) := by decide +kernel
theorem d_Md_serve_64 : decode b_Md_serve 64 = .ok (.iconst 2, 1) := by decide +kernel
theorem d_Md_serve_65 : decode b_Md_serve 65 = .ok (.iadd, 1) := by decide +kernel
theorem d_Md_serve_66 : decode b_Md_serve 66 = .ok (.dup2, 1) := by decide +kernel
theorem d_Md_serve_67 : decode b_Md_serve 67 = .ok (.iaload, 1) := by decide +kernel
theorem d_Md_serve_68 : decode b_Md_serve 68 = .ok (.iconst 1, 1) := by decide +kernel
theorem d_Md_serve_69 : decode b_Md_serve 69 = .ok (.iadd, 1) := by decide +kernel
theorem d_Md_serve_70 : decode b_Md_serve 70 = .ok (.iastore, 1) := by decide +kernel
theorem d_Md_serve_71 : decode b_Md_serve 71 = .ok (.aload_n 0, 1) := by decide +kernel
theorem d_Md_serve_72 : decode b_Md_serve 72 = .ok (.getfield 41, 3) := by decide +kernel
theorem d_Md_serve_75 : decode b_Md_serve 75 = .ok (.iload_n 1, 1) := by decide +kernel
theorem d_Md_serve_76 : decode b_Md_serve 76 = .ok (.dup2, 1) := by decide +kernel
theorem d_Md_serve_77 : decode b_Md_serve 77 = .ok (.iaload, 1) := by decide +kernel
theorem d_Md_serve_78 : decode b_Md_serve 78 = .ok (.iconst 1, 1) := by decide +kernel
theorem d_Md_serve_79 : decode b_Md_serve 79 = .ok (.iadd, 1) := by decide +kernel
theorem d_Md_serve_80 : decode b_Md_serve 80 = .ok (.iastore, 1) := by decide +kernel
theorem d_Md_serve_81 : decode b_Md_serve 81 = .ok (.aload_n 0, 1) := by decide +kernel
theorem d_Md_serve_82 : decode b_Md_serve 82 = .ok (.getfield 47, 3) := by decide +kernel
theorem d_Md_serve_85 : decode b_Md_serve 85 = .ok (.iload_n 1, 1) := by decide +kernel
theorem d_Md_serve_86 : decode b_Md_serve 86 = .ok (.aload_n 0, 1) := by decide +kernel
theorem d_Md_serve_87 : decode b_Md_serve 87 = .ok (.getfield 69, 3) := by decide +kernel
theorem d_Md_serve_90 : decode b_Md_serve 90 = .ok (.iastore, 1) := by decide +kernel
theorem d_Md_serve_91 : decode b_Md_serve 91 = .ok (.iconst 3, 1) := by decide +kernel
theorem d_Md_serve_92 : decode b_Md_serve 92 = .ok (.aload_n 0, 1) := by decide +kernel
theorem d_Md_serve_93 : decode b_Md_serve 93 = .ok (.getfield 72, 3) := by decide +kernel
theorem d_Md_serve_96 : decode b_Md_serve 96 = .ok (.bipush 16, 2) := by decide +kernel
theorem d_Md_serve_98 : decode b_Md_serve 98 = .ok (.irem, 1) := by decide +kernel
theorem d_Md_serve_99 : decode b_Md_serve 99 = .ok (.imul, 1) := by decide +kernel
theorem d_Md_serve_100 : decode b_Md_serve 100 = .ok (.istore_n 3, 1) := by decide +kernel
theorem d_Md_serve_101 : decode b_Md_serve 101 = .ok (.aload_n 0, 1) := by decide +kernel
theorem d_Md_serve_102 : decode b_Md_serve 102 = .ok (.getfield 50, 3) := by decide +kernel
theorem d_Md_serve_105 : decode b_Md_serve 105 = .ok (.iload_n 3, 1) := by decide +kernel
theorem d_Md_serve_106 : decode b_Md_serve 106 = .ok (.iload_n 2, 1) := by decide +kernel
theorem d_Md_serve_107 : decode b_Md_serve 107 = .ok (.iastore, 1) := by decide +kernel
theorem d_Md_serve_108 : decode b_Md_serve 108 = .ok (.aload_n 0, 1) := by decide +kernel
theorem d_Md_serve_109 : decode b_Md_serve 109 = .ok (.getfield 50, 3) := by decide +kernel
theorem d_Md_serve_112 : decode b_Md_serve 112 = .ok (.iload_n 3, 1) := by decide +kernel
theorem d_Md_serve_113 : decode b_Md_serve 113 = .ok (.iconst 1, 1) := by decide +kernel
theorem d_Md_serve_114 : decode b_Md_serve 114 = .ok (.iadd, 1) := by decide +kernel
theorem d_Md_serve_115 : decode b_Md_serve 115 = .ok (.iload_n 1, 1) := by decide +kernel
theorem d_Md_serve_116 : decode b_Md_serve 116 = .ok (.iastore, 1) := by decide +kernel
theorem d_Md_serve_117 : decode b_Md_serve 117 = .ok (.aload_n 0, 1) := by decide +kernel
theorem d_Md_serve_118 : decode b_Md_serve 118 = .ok (.getfield 50, 3) := by decide +kernel
theorem d_Md_serve_121 : decode b_Md_serve 121 = .ok (.iload_n 3, 1) := by decide +kernel
theorem d_Md_serve_122 : decode b_Md_serve 122 = .ok (.iconst 2, 1) := by decide +kernel
theorem d_Md_serve_123 : decode b_Md_serve 123 = .ok (.iadd, 1) := by decide +kernel
theorem d_Md_serve_124 : decode b_Md_serve 124 = .ok (.aload_n 0, 1) := by decide +kernel
theorem d_Md_serve_125 : decode b_Md_serve 125 = .ok (.getfield 69, 3) := by decide +kernel
theorem d_Md_serve_128 : decode b_Md_serve 128 = .ok (.iastore, 1) := by decide +kernel
theorem d_Md_serve_129 : decode b_Md_serve 129 = .ok (.aload_n 0, 1) := by decide +kernel
theorem d_Md_serve_130 : decode b_Md_serve 130 = .ok (.dup, 1) := by decide +kernel
theorem d_Md_serve_131 : decode b_Md_serve 131 = .ok (.getfield 72, 3) := by decide +kernel
theorem d_Md_serve_134 : decode b_Md_serve 134 = .ok (.iconst 1, 1) := by decide +kernel
theorem d_Md_serve_135 : decode b_Md_serve 135 = .ok (.iadd, 1) := by decide +kernel
theorem d_Md_serve_136 : decode b_Md_serve 136 = .ok (.putfield 72, 3) := by decide +kernel
theorem d_Md_serve_139 : decode b_Md_serve 139 = .ok (.return_, 1) := by decide +kernel
theorem d_Md_asks_0 : decode b_Md_asks 0 = .ok (.aload_n 0, 1) := by decide +kernel
theorem d_Md_asks_1 : decode b_Md_asks 1 = .ok (.getfield 62, 3) := by decide +kernel
theorem d_Md_asks_4 : decode b_Md_asks 4 = .ok (.aload_n 0, 1) := by decide +kernel
theorem d_Md_asks_5 : decode b_Md_asks 5 = .ok (.getfield 29, 3) := by decide +kernel
theorem d_Md_asks_8 : decode b_Md_asks 8 = .ok (.iload_n 1, 1) := by decide +kernel
theorem d_Md_asks_9 : decode b_Md_asks 9 = .ok (.iaload, 1) := by decide +kernel
theorem d_Md_asks_10 : decode b_Md_asks 10 = .ok (.iand, 1) := by decide +kernel
theorem d_Md_asks_11 : decode b_Md_asks 11 = .ok (.ifCond .eq 7, 3) := by decide +kernel
theorem d_Md_asks_14 : decode b_Md_asks 14 = .ok (.iconst 1, 1) := by decide +kernel
theorem d_Md_asks_15 : decode b_Md_asks 15 = .ok (.goto 4, 3) := by decide +kernel
theorem d_Md_asks_18 : decode b_Md_asks 18 = .ok (.iconst 0, 1) := by decide +kernel
theorem d_Md_asks_19 : decode b_Md_asks 19 = .ok (.ireturn, 1) := by decide +kernel
theorem d_Md_next_0 : decode b_Md_next 0 = .ok (.iload_n 1, 1) := by decide +kernel
theorem d_Md_next_1 : decode b_Md_next 1 = .ok (.iconst 0, 1) := by decide +kernel
theorem d_Md_next_2 : decode b_Md_next 2 = .ok (.sipush 20000, 3) := by decide +kernel
theorem d_Md_next_5 : decode b_Md_next 5 = .ok (.invokestatic 57, 3) := by decide +kernel
theorem d_Md_next_8 : decode b_Md_next 8 = .ok (.ifCond .ne 5, 3) := by decide +kernel
theorem d_Md_next_11 : decode b_Md_next 11 = .ok (.iconst (-1), 1) := by decide +kernel
theorem d_Md_next_12 : decode b_Md_next 12 = .ok (.ireturn, 1) := by decide +kernel
theorem d_Md_next_13 : decode b_Md_next 13 = .ok (.aload_n 0, 1) := by decide +kernel
theorem d_Md_next_14 : decode b_Md_next 14 = .ok (.getfield 72, 3) := by decide +kernel
theorem d_Md_next_17 : decode b_Md_next 17 = .ok (.istore_n 2, 1) := by decide +kernel
theorem d_Md_next_18 : decode b_Md_next 18 = .ok (.iconst 0, 1) := by decide +kernel
theorem d_Md_next_19 : decode b_Md_next 19 = .ok (.istore_n 3, 1) := by decide +kernel
theorem d_Md_next_20 : decode b_Md_next 20 = .ok (.iload_n 3, 1) := by decide +kernel
theorem d_Md_next_21 : decode b_Md_next 21 = .ok (.iload_n 1, 1) := by decide +kernel
theorem d_Md_next_22 : decode b_Md_next 22 = .ok (.if_icmp .ge 21, 3) := by decide +kernel
theorem d_Md_next_25 : decode b_Md_next 25 = .ok (.aload_n 0, 1) := by decide +kernel
theorem d_Md_next_26 : decode b_Md_next 26 = .ok (.getfield 72, 3) := by decide +kernel
theorem d_Md_next_29 : decode b_Md_next 29 = .ok (.iload_n 2, 1) := by decide +kernel
theorem d_Md_next_30 : decode b_Md_next 30 = .ok (.if_icmp .ne 13, 3) := by decide +kernel
theorem d_Md_next_33 : decode b_Md_next 33 = .ok (.aload_n 0, 1) := by decide +kernel
theorem d_Md_next_34 : decode b_Md_next 34 = .ok (.invokevirtual 82, 3) := by decide +kernel
theorem d_Md_next_37 : decode b_Md_next 37 = .ok (.iinc 3 1, 3) := by decide +kernel
theorem d_Md_next_40 : decode b_Md_next 40 = .ok (.goto (-20), 3) := by decide +kernel
theorem d_Md_next_43 : decode b_Md_next 43 = .ok (.iload_n 3, 1) := by decide +kernel
theorem d_Md_next_44 : decode b_Md_next 44 = .ok (.ireturn, 1) := by decide +kernel
theorem d_Md_timer_0 : decode b_Md_timer 0 = .ok (.iload_n 1, 1) := by decide +kernel
theorem d_Md_timer_1 : decode b_Md_timer 1 = .ok (.iconst 0, 1) := by decide +kernel
theorem d_Md_timer_2 : decode b_Md_timer 2 = .ok (.bipush 7, 2) := by decide +kernel
theorem d_Md_timer_4 : decode b_Md_timer 4 = .ok (.invokestatic 57, 3) := by decide +kernel
theorem d_Md_timer_7 : decode b_Md_timer 7 = .ok (.ifCond .ne 5, 3) := by decide +kernel
theorem d_Md_timer_10 : decode b_Md_timer 10 = .ok (.iconst (-1), 1) := by decide +kernel
theorem d_Md_timer_11 : decode b_Md_timer 11 = .ok (.ireturn, 1) := by decide +kernel
theorem d_Md_timer_12 : decode b_Md_timer 12 = .ok (.iload_n 2, 1) := by decide +kernel
theorem d_Md_timer_13 : decode b_Md_timer 13 = .ok (.tableswitch 144 0 8 #[51, 58, 65, 72, 87, 102, 111, 122, 133], 51) := by decide +kernel
theorem d_Md_timer_64 : decode b_Md_timer 64 = .ok (.aload_n 0, 1) := by decide +kernel
theorem d_Md_timer_65 : decode b_Md_timer 65 = .ok (.getfield 13, 3) := by decide +kernel
theorem d_Md_timer_68 : decode b_Md_timer 68 = .ok (.iload_n 1, 1) := by decide +kernel
theorem d_Md_timer_69 : decode b_Md_timer 69 = .ok (.iaload, 1) := by decide +kernel
theorem d_Md_timer_70 : decode b_Md_timer 70 = .ok (.ireturn, 1) := by decide +kernel
theorem d_Md_timer_71 : decode b_Md_timer 71 = .ok (.aload_n 0, 1) := by decide +kernel
theorem d_Md_timer_72 : decode b_Md_timer 72 = .ok (.getfield 7, 3) := by decide +kernel
theorem d_Md_timer_75 : decode b_Md_timer 75 = .ok (.iload_n 1, 1) := by decide +kernel
theorem d_Md_timer_76 : decode b_Md_timer 76 = .ok (.iaload, 1) := by decide +kernel
theorem d_Md_timer_77 : decode b_Md_timer 77 = .ok (.ireturn, 1) := by decide +kernel
theorem d_Md_timer_78 : decode b_Md_timer 78 = .ok (.aload_n 0, 1) := by decide +kernel
theorem d_Md_timer_79 : decode b_Md_timer 79 = .ok (.getfield 16, 3) := by decide +kernel
theorem d_Md_timer_82 : decode b_Md_timer 82 = .ok (.iload_n 1, 1) := by decide +kernel
theorem d_Md_timer_83 : decode b_Md_timer 83 = .ok (.iaload, 1) := by decide +kernel
theorem d_Md_timer_84 : decode b_Md_timer 84 = .ok (.ireturn, 1) := by decide +kernel
theorem d_Md_timer_85 : decode b_Md_timer 85 = .ok (.aload_n 0, 1) := by decide +kernel
theorem d_Md_timer_86 : decode b_Md_timer 86 = .ok (.getfield 23, 3) := by decide +kernel
theorem d_Md_timer_89 : decode b_Md_timer 89 = .ok (.iload_n 1, 1) := by decide +kernel
theorem d_Md_timer_90 : decode b_Md_timer 90 = .ok (.baload, 1) := by decide +kernel
theorem d_Md_timer_91 : decode b_Md_timer 91 = .ok (.ifCond .eq 7, 3) := by decide +kernel
theorem d_Md_timer_94 : decode b_Md_timer 94 = .ok (.iconst 1, 1) := by decide +kernel
theorem d_Md_timer_95 : decode b_Md_timer 95 = .ok (.goto 4, 3) := by decide +kernel
theorem d_Md_timer_98 : decode b_Md_timer 98 = .ok (.iconst 0, 1) := by decide +kernel
theorem d_Md_timer_99 : decode b_Md_timer 99 = .ok (.ireturn, 1) := by decide +kernel
theorem d_Md_timer_100 : decode b_Md_timer 100 = .ok (.aload_n 0, 1) := by decide +kernel
theorem d_Md_timer_101 : decode b_Md_timer 101 = .ok (.getfield 19, 3) := by decide +kernel
theorem d_Md_timer_104 : decode b_Md_timer 104 = .ok (.iload_n 1, 1) := by decide +kernel
theorem d_Md_timer_105 : decode b_Md_timer 105 = .ok (.baload, 1) := by decide +kernel
theorem d_Md_timer_106 : decode b_Md_timer 106 = .ok (.ifCond .eq 7, 3) := by decide +kernel
theorem d_Md_timer_109 : decode b_Md_timer 109 = .ok (.iconst 1, 1) := by decide +kernel
theorem d_Md_timer_110 : decode b_Md_timer 110 = .ok (.goto 4, 3) := by decide +kernel
theorem d_Md_timer_113 : decode b_Md_timer 113 = .ok (.iconst 0, 1) := by decide +kernel
theorem d_Md_timer_114 : decode b_Md_timer 114 = .ok (.ireturn, 1) := by decide +kernel
theorem d_Md_timer_115 : decode b_Md_timer 115 = .ok (.aload_n 0, 1) := by decide +kernel
theorem d_Md_timer_116 : decode b_Md_timer 116 = .ok (.getfield 26, 3) := by decide +kernel
theorem d_Md_timer_119 : decode b_Md_timer 119 = .ok (.iconst 4, 1) := by decide +kernel
theorem d_Md_timer_120 : decode b_Md_timer 120 = .ok (.iload_n 1, 1) := by decide +kernel
theorem d_Md_timer_121 : decode b_Md_timer 121 = .ok (.imul, 1) := by decide +kernel
theorem d_Md_timer_122 : decode b_Md_timer 122 = .ok (.iaload, 1) := by decide +kernel
theorem d_Md_timer_123 : decode b_Md_timer 123 = .ok (.ireturn, 1) := by decide +kernel
theorem d_Md_timer_124 : decode b_Md_timer 124 = .ok (.aload_n 0, 1) := by decide +kernel
theorem d_Md_timer_125 : decode b_Md_timer 125 = .ok (.getfield 26, 3) := by decide +kernel
theorem d_Md_timer_128 : decode b_Md_timer 128 = .ok (.iconst 4, 1) := by decide +kernel
theorem d_Md_timer_129 : decode b_Md_timer 129 = .ok (.iload_n 1, 1) := by decide +kernel
theorem d_Md_timer_130 : decode b_Md_timer 130 = .ok (.imul, 1) := by decide +kernel
theorem d_Md_timer_131 : decode b_Md_timer 131 = .ok (.iconst 1, 1) := by decide +kernel
theorem d_Md_timer_132 : decode b_Md_timer 132 = .ok (.iadd, 1) := by decide +kernel
theorem d_Md_timer_133 : decode b_Md_timer 133 = .ok (.iaload, 1) := by decide +kernel
theorem d_Md_timer_134 : decode b_Md_timer 134 = .ok (.ireturn, 1) := by decide +kernel
theorem d_Md_timer_135 : decode b_Md_timer 135 = .ok (.aload_n 0, 1) := by decide +kernel
theorem d_Md_timer_136 : decode b_Md_timer 136 = .ok (.getfield 26, 3) := by decide +kernel
theorem d_Md_timer_139 : decode b_Md_timer 139 = .ok (.iconst 4, 1) := by decide +kernel
theorem d_Md_timer_140 : decode b_Md_timer 140 = .ok (.iload_n 1, 1) := by decide +kernel
theorem d_Md_timer_141 : decode b_Md_timer 141 = .ok (.imul, 1) := by decide +kernel
theorem d_Md_timer_142 : decode b_Md_timer 142 = .ok (.iconst 2, 1) := by decide +kernel
theorem d_Md_timer_143 : decode b_Md_timer 143 = .ok (.iadd, 1) := by decide +kernel
theorem d_Md_timer_144 : decode b_Md_timer 144 = .ok (.iaload, 1) := by decide +kernel
theorem d_Md_timer_145 : decode b_Md_timer 145 = .ok (.ireturn, 1) := by decide +kernel
theorem d_Md_timer_146 : decode b_Md_timer 146 = .ok (.aload_n 0, 1) := by decide +kernel
theorem d_Md_timer_147 : decode b_Md_timer 147 = .ok (.getfield 26, 3) := by decide +kernel
theorem d_Md_timer_150 : decode b_Md_timer 150 = .ok (.iconst 4, 1) := by decide +kernel
theorem d_Md_timer_151 : decode b_Md_timer 151 = .ok (.iload_n 1, 1) := by decide +kernel
theorem d_Md_timer_152 : decode b_Md_timer 152 = .ok (.imul, 1) := by decide +kernel
theorem d_Md_timer_153 : decode b_Md_timer 153 = .ok (.iconst 3, 1) := by decide +kernel
theorem d_Md_timer_154 : decode b_Md_timer 154 = .ok (.iadd, 1) := by decide +kernel
theorem d_Md_timer_155 : decode b_Md_timer 155 = .ok (.iaload, 1) := by decide +kernel
theorem d_Md_timer_156 : decode b_Md_timer 156 = .ok (.ireturn, 1) := by decide +kernel
theorem d_Md_timer_157 : decode b_Md_timer 157 = .ok (.iconst (-1), 1) := by decide +kernel
theorem d_Md_timer_158 : decode b_Md_timer 158 = .ok (.ireturn, 1) := by decide +kernel
theorem d_Md_gateOf_0 : decode b_Md_gateOf 0 = .ok (.iload_n 1, 1) := by decide +kernel
theorem d_Md_gateOf_1 : decode b_Md_gateOf 1 = .ok (.iconst 0, 1) := by decide +kernel
theorem d_Md_gateOf_2 : decode b_Md_gateOf 2 = .ok (.iconst 3, 1) := by decide +kernel
theorem d_Md_gateOf_3 : decode b_Md_gateOf 3 = .ok (.invokestatic 57, 3) := by decide +kernel
theorem d_Md_gateOf_6 : decode b_Md_gateOf 6 = .ok (.ifCond .ne 5, 3) := by decide +kernel
theorem d_Md_gateOf_9 : decode b_Md_gateOf 9 = .ok (.iconst (-1), 1) := by decide +kernel
theorem d_Md_gateOf_10 : decode b_Md_gateOf 10 = .ok (.ireturn, 1) := by decide +kernel
theorem d_Md_gateOf_11 : decode b_Md_gateOf 11 = .ok (.iload_n 2, 1) := by decide +kernel
theorem d_Md_gateOf_12 : decode b_Md_gateOf 12 = .ok (.tableswitch 100 0 6 #[44, 58, 65, 72, 79, 86, 93], 44) := by decide +kernel
theorem d_Md_gateOf_56 : decode b_Md_gateOf 56 = .ok (.aload_n 0, 1) := by decide +kernel
theorem d_Md_gateOf_57 : decode b_Md_gateOf 57 = .ok (.iload_n 1, 1) := by decide +kernel
theorem d_Md_gateOf_58 : decode b_Md_gateOf 58 = .ok (.invokevirtual 65, 3) := by decide +kernel
theorem d_Md_gateOf_61 : decode b_Md_gateOf 61 = .ok (.ifCond .eq 7, 3) := by decide +kernel
theorem d_Md_gateOf_64 : decode b_Md_gateOf 64 = .ok (.iconst 1, 1) := by decide +kernel
theorem d_Md_gateOf_65 : decode b_Md_gateOf 65 = .ok (.goto 4, 3) := by decide +kernel
theorem d_Md_gateOf_68 : decode b_Md_gateOf 68 = .ok (.iconst 0, 1) := by decide +kernel
theorem d_Md_gateOf_69 : decode b_Md_gateOf 69 = .ok (.ireturn, 1) := by decide +kernel
theorem d_Md_gateOf_70 : decode b_Md_gateOf 70 = .ok (.aload_n 0, 1) := by decide +kernel
theorem d_Md_gateOf_71 : decode b_Md_gateOf 71 = .ok (.getfield 35, 3) := by decide +kernel
theorem d_Md_gateOf_74 : decode b_Md_gateOf 74 = .ok (.iload_n 1, 1) := by decide +kernel
theorem d_Md_gateOf_75 : decode b_Md_gateOf 75 = .ok (.iaload, 1) := by decide +kernel
theorem d_Md_gateOf_76 : decode b_Md_gateOf 76 = .ok (.ireturn, 1) := by decide +kernel
theorem d_Md_gateOf_77 : decode b_Md_gateOf 77 = .ok (.aload_n 0, 1) := by decide +kernel
theorem d_Md_gateOf_78 : decode b_Md_gateOf 78 = .ok (.getfield 29, 3) := by decide +kernel
theorem d_Md_gateOf_81 : decode b_Md_gateOf 81 = .ok (.iload_n 1, 1) := by decide +kernel
theorem d_Md_gateOf_82 : decode b_Md_gateOf 82 = .ok (.iaload, 1) := by decide +kernel
theorem d_Md_gateOf_83 : decode b_Md_gateOf 83 = .ok (.ireturn, 1) := by decide +kernel
theorem d_Md_gateOf_84 : decode b_Md_gateOf 84 = .ok (.aload_n 0, 1) := by decide +kernel
theorem d_Md_gateOf_85 : decode b_Md_gateOf 85 = .ok (.getfield 32, 3) := by decide +kernel
theorem d_Md_gateOf_88 : decode b_Md_gateOf 88 = .ok (.iload_n 1, 1) := by decide +kernel
theorem d_Md_gateOf_89 : decode b_Md_gateOf 89 = .ok (.iaload, 1) := by decide +kernel
theorem d_Md_gateOf_90 : decode b_Md_gateOf 90 = .ok (.ireturn, 1) := by decide +kernel
theorem d_Md_gateOf_91 : decode b_Md_gateOf 91 = .ok (.aload_n 0, 1) := by decide +kernel
theorem d_Md_gateOf_92 : decode b_Md_gateOf 92 = .ok (.getfield 41, 3) := by decide +kernel
theorem d_Md_gateOf_95 : decode b_Md_gateOf 95 = .ok (.iload_n 1, 1) := by decide +kernel
theorem d_Md_gateOf_96 : decode b_Md_gateOf 96 = .ok (.iaload, 1) := by decide +kernel
theorem d_Md_gateOf_97 : decode b_Md_gateOf 97 = .ok (.ireturn, 1) := by decide +kernel
theorem d_Md_gateOf_98 : decode b_Md_gateOf 98 = .ok (.aload_n 0, 1) := by decide +kernel
theorem d_Md_gateOf_99 : decode b_Md_gateOf 99 = .ok (.getfield 44, 3) := by decide +kernel
theorem d_Md_gateOf_102 : decode b_Md_gateOf 102 = .ok (.iload_n 1, 1) := by decide +kernel
theorem d_Md_gateOf_103 : decode b_Md_gateOf 103 = .ok (.iaload, 1) := by decide +kernel
theorem d_Md_gateOf_104 : decode b_Md_gateOf 104 = .ok (.ireturn, 1) := by decide +kernel
theorem d_Md_gateOf_105 : decode b_Md_gateOf 105 = .ok (.aload_n 0, 1) := by decide +kernel
theorem d_Md_gateOf_106 : decode b_Md_gateOf 106 = .ok (.getfield 47, 3) := by decide +kernel
theorem d_Md_gateOf_109 : decode b_Md_gateOf 109 = .ok (.iload_n 1, 1) := by decide +kernel
theorem d_Md_gateOf_110 : decode b_Md_gateOf 110 = .ok (.iaload, 1) := by decide +kernel
theorem d_Md_gateOf_111 : decode b_Md_gateOf 111 = .ok (.ireturn, 1) := by decide +kernel
theorem d_Md_gateOf_112 : decode b_Md_gateOf 112 = .ok (.iconst (-1), 1) := by decide +kernel
theorem d_Md_gateOf_113 : decode b_Md_gateOf 113 = .ok (.ireturn, 1) := by decide +kernel
theorem d_Md_look_0 : decode b_Md_look 0 = .ok (.iload_n 1, 1) := by decide +kernel
theorem d_Md_look_1 : decode b_Md_look 1 = .ok (.ifCond .ne 8, 3) := by decide +kernel
theorem d_Md_look_4 : decode b_Md_look 4 = .ok (.aload_n 0, 1) := by decide +kernel
theorem d_Md_look_5 : decode b_Md_look 5 = .ok (.getfield 62, 3) := by decide +kernel
theorem d_Md_look_8 : decode b_Md_look 8 = .ok (.ireturn, 1) := by decide +kernel
theorem d_Md_look_9 : decode b_Md_look 9 = .ok (.iload_n 1, 1) := by decide +kernel
theorem d_Md_look_10 : decode b_Md_look 10 = .ok (.iconst 1, 1) := by decide +kernel
theorem d_Md_look_11 : decode b_Md_look 11 = .ok (.if_icmp .ne 8, 3) := by decide +kernel
theorem d_Md_look_14 : decode b_Md_look 14 = .ok (.aload_n 0, 1) := by decide +kernel
theorem d_Md_look_15 : decode b_Md_look 15 = .ok (.getfield 69, 3) := by decide +kernel
theorem d_Md_look_18 : decode b_Md_look 18 = .ok (.ireturn, 1) := by decide +kernel
theorem d_Md_look_19 : decode b_Md_look 19 = .ok (.iload_n 1, 1) := by decide +kernel
theorem d_Md_look_20 : decode b_Md_look 20 = .ok (.iconst 2, 1) := by decide +kernel
theorem d_Md_look_21 : decode b_Md_look 21 = .ok (.if_icmp .ne 8, 3) := by decide +kernel
theorem d_Md_look_24 : decode b_Md_look 24 = .ok (.aload_n 0, 1) := by decide +kernel
theorem d_Md_look_25 : decode b_Md_look 25 = .ok (.getfield 72, 3) := by decide +kernel
theorem d_Md_look_28 : decode b_Md_look 28 = .ok (.ireturn, 1) := by decide +kernel
theorem d_Md_look_29 : decode b_Md_look 29 = .ok (.iload_n 1, 1) := by decide +kernel
theorem d_Md_look_30 : decode b_Md_look 30 = .ok (.iconst 3, 1) := by decide +kernel
theorem d_Md_look_31 : decode b_Md_look 31 = .ok (.if_icmp .eq 5, 3) := by decide +kernel
theorem d_Md_look_34 : decode b_Md_look 34 = .ok (.iconst (-1), 1) := by decide +kernel
theorem d_Md_look_35 : decode b_Md_look 35 = .ok (.ireturn, 1) := by decide +kernel
theorem d_Md_look_36 : decode b_Md_look 36 = .ok (.iconst 0, 1) := by decide +kernel
theorem d_Md_look_37 : decode b_Md_look 37 = .ok (.istore_n 2, 1) := by decide +kernel
theorem d_Md_look_38 : decode b_Md_look 38 = .ok (.iconst 0, 1) := by decide +kernel
theorem d_Md_look_39 : decode b_Md_look 39 = .ok (.istore_n 3, 1) := by decide +kernel
theorem d_Md_look_40 : decode b_Md_look 40 = .ok (.iload_n 3, 1) := by decide +kernel
theorem d_Md_look_41 : decode b_Md_look 41 = .ok (.bipush 8, 2) := by decide +kernel
theorem d_Md_look_43 : decode b_Md_look 43 = .ok (.if_icmp .ge 48, 3) := by decide +kernel
theorem d_Md_look_46 : decode b_Md_look 46 = .ok (.aload_n 0, 1) := by decide +kernel
theorem d_Md_look_47 : decode b_Md_look 47 = .ok (.getfield 23, 3) := by decide +kernel
theorem d_Md_look_50 : decode b_Md_look 50 = .ok (.iload_n 3, 1) := by decide +kernel
theorem d_Md_look_51 : decode b_Md_look 51 = .ok (.baload, 1) := by decide +kernel
theorem d_Md_look_52 : decode b_Md_look 52 = .ok (.ifCond .eq 33, 3) := by decide +kernel
theorem d_Md_look_55 : decode b_Md_look 55 = .ok (.aload_n 0, 1) := by decide +kernel
theorem d_Md_look_56 : decode b_Md_look 56 = .ok (.getfield 16, 3) := by decide +kernel
theorem d_Md_look_59 : decode b_Md_look 59 = .ok (.iload_n 3, 1) := by decide +kernel
theorem d_Md_look_60 : decode b_Md_look 60 = .ok (.iaload, 1) := by decide +kernel
theorem d_Md_look_61 : decode b_Md_look 61 = .ok (.ifCond .ne 24, 3) := by decide +kernel
theorem d_Md_look_64 : decode b_Md_look 64 = .ok (.iload_n 2, 1) := by decide +kernel
theorem d_Md_look_65 : decode b_Md_look 65 = .ok (.ifCond .eq 13, 3) := by decide +kernel
theorem d_Md_look_68 : decode b_Md_look 68 = .ok (.aload_n 0, 1) := by decide +kernel
theorem d_Md_look_69 : decode b_Md_look 69 = .ok (.getfield 13, 3) := by decide +kernel
theorem d_Md_look_72 : decode b_Md_look 72 = .ok (.iload_n 3, 1) := by decide +kernel
theorem d_Md_look_73 : decode b_Md_look 73 = .ok (.iaload, 1) := by decide +kernel
theorem d_Md_look_74 : decode b_Md_look 74 = .ok (.iload_n 2, 1) := by decide +kernel
theorem d_Md_look_75 : decode b_Md_look 75 = .ok (.if_icmp .ge 10, 3) := by decide +kernel
theorem d_Md_look_78 : decode b_Md_look 78 = .ok (.aload_n 0, 1) := by decide +kernel
theorem d_Md_look_79 : decode b_Md_look 79 = .ok (.getfield 13, 3) := by decide +kernel
theorem d_Md_look_82 : decode b_Md_look 82 = .ok (.iload_n 3, 1) := by decide +kernel
theorem d_Md_look_83 : decode b_Md_look 83 = .ok (.iaload, 1) := by decide +kernel
theorem d_Md_look_84 : decode b_Md_look 84 = .ok (.istore_n 2, 1) := by decide +kernel
theorem d_Md_look_85 : decode b_Md_look 85 = .ok (.iinc 3 1, 3) := by decide +kernel
theorem d_Md_look_88 : decode b_Md_look 88 = .ok (.goto (-48), 3) := by decide +kernel
theorem d_Md_look_91 : decode b_Md_look 91 = .ok (.iload_n 2, 1) := by decide +kernel
theorem d_Md_look_92 : decode b_Md_look 92 = .ok (.ireturn, 1) := by decide +kernel
theorem d_Md_served_0 : decode b_Md_served 0 = .ok (.iload_n 1, 1) := by decide +kernel
theorem d_Md_served_1 : decode b_Md_served 1 = .ok (.iconst 0, 1) := by decide +kernel
theorem d_Md_served_2 : decode b_Md_served 2 = .ok (.bipush 15, 2) := by decide +kernel
theorem d_Md_served_4 : decode b_Md_served 4 = .ok (.invokestatic 57, 3) := by decide +kernel
theorem d_Md_served_7 : decode b_Md_served 7 = .ok (.ifCond .eq 20, 3) := by decide +kernel
theorem d_Md_served_10 : decode b_Md_served 10 = .ok (.iload_n 1, 1) := by decide +kernel
theorem d_Md_served_11 : decode b_Md_served 11 = .ok (.aload_n 0, 1) := by decide +kernel
theorem d_Md_served_12 : decode b_Md_served 12 = .ok (.getfield 72, 3) := by decide +kernel
theorem d_Md_served_15 : decode b_Md_served 15 = .ok (.if_icmp .ge 12, 3) := by decide +kernel
theorem d_Md_served_18 : decode b_Md_served 18 = .ok (.iload_n 2, 1) := by decide +kernel
theorem d_Md_served_19 : decode b_Md_served 19 = .ok (.iconst 0, 1) := by decide +kernel
theorem d_Md_served_20 : decode b_Md_served 20 = .ok (.iconst 2, 1) := by decide +kernel
theorem d_Md_served_21 : decode b_Md_served 21 = .ok (.invokestatic 57, 3) := by decide +kernel
theorem d_Md_served_24 : decode b_Md_served 24 = .ok (.ifCond .ne 5, 3) := by decide +kernel
theorem d_Md_served_27 : decode b_Md_served 27 = .ok (.iconst (-1), 1) := by decide +kernel
theorem d_Md_served_28 : decode b_Md_served 28 = .ok (.ireturn, 1) := by decide +kernel
theorem d_Md_served_29 : decode b_Md_served 29 = .ok (.aload_n 0, 1) := by decide +kernel
theorem d_Md_served_30 : decode b_Md_served 30 = .ok (.getfield 50, 3) := by decide +kernel
theorem d_Md_served_33 : decode b_Md_served 33 = .ok (.iconst 3, 1) := by decide +kernel
theorem d_Md_served_34 : decode b_Md_served 34 = .ok (.aload_n 0, 1) := by decide +kernel
theorem d_Md_served_35 : decode b_Md_served 35 = .ok (.getfield 72, 3) := by decide +kernel
theorem d_Md_served_38 : decode b_Md_served 38 = .ok (.iconst 1, 1) := by decide +kernel
theorem d_Md_served_39 : decode b_Md_served 39 = .ok (.isub, 1) := by decide +kernel
theorem d_Md_served_40 : decode b_Md_served 40 = .ok (.iload_n 1, 1) := by decide +kernel
theorem d_Md_served_41 : decode b_Md_served 41 = .ok (.isub, 1) := by decide +kernel
theorem d_Md_served_42 : decode b_Md_served 42 = .ok (.bipush 16, 2) := by decide +kernel
theorem d_Md_served_44 : decode b_Md_served 44 = .ok (.irem, 1) := by decide +kernel
theorem d_Md_served_45 : decode b_Md_served 45 = .ok (.imul, 1) := by decide +kernel
theorem d_Md_served_46 : decode b_Md_served 46 = .ok (.iload_n 2, 1) := by decide +kernel
theorem d_Md_served_47 : decode b_Md_served 47 = .ok (.iadd, 1) := by decide +kernel
theorem d_Md_served_48 : decode b_Md_served 48 = .ok (.iaload, 1) := by decide +kernel
theorem d_Md_served_49 : decode b_Md_served 49 = .ok (.ireturn, 1) := by decide +kernel
end
section
theorem d_law_0 : decode code 0 = .ok (.new 7, 3) := by decide +kernel
theorem d_law_3 : decode code 3 = .ok (.dup, 1) := by decide +kernel
theorem d_law_4 : decode code 4 = .ok (.invokespecial 9, 3) := by decide +kernel
theorem d_law_7 : decode code 7 = .ok (.astore_n 1, 1) := by decide +kernel
theorem d_law_8 : decode code 8 = .ok (.new 10, 3) := by decide +kernel
theorem d_law_11 : decode code 11 = .ok (.dup, 1) := by decide +kernel
theorem d_law_12 : decode code 12 = .ok (.invokespecial 12, 3) := by decide +kernel
theorem d_law_15 : decode code 15 = .ok (.astore_n 2, 1) := by decide +kernel
theorem d_law_16 : decode code 16 = .ok (.iconst 0, 1) := by decide +kernel
theorem d_law_17 : decode code 17 = .ok (.istore_n 3, 1) := by decide +kernel
theorem d_law_18 : decode code 18 = .ok (.iload_n 3, 1) := by decide +kernel
theorem d_law_19 : decode code 19 = .ok (.aload_n 0, 1) := by decide +kernel
theorem d_law_20 : decode code 20 = .ok (.arraylength, 1) := by decide +kernel
theorem d_law_21 : decode code 21 = .ok (.iconst 5, 1) := by decide +kernel
theorem d_law_22 : decode code 22 = .ok (.isub, 1) := by decide +kernel
theorem d_law_23 : decode code 23 = .ok (.if_icmp .gt 423, 3) := by decide +kernel
theorem d_law_26 : decode code 26 = .ok (.aload_n 0, 1) := by decide +kernel
theorem d_law_27 : decode code 27 = .ok (.iload_n 3, 1) := by decide +kernel
theorem d_law_28 : decode code 28 = .ok (.iaload, 1) := by decide +kernel
theorem d_law_29 : decode code 29 = .ok (.bipush 15, 2) := by decide +kernel
theorem d_law_31 : decode code 31 = .ok (.iand, 1) := by decide +kernel
theorem d_law_32 : decode code 32 = .ok (.tableswitch 408 0 9 #[56, 125, 174, 217, 240, 263, 286, 319, 352, 375], 56) := by decide +kernel
theorem d_law_88 : decode code 88 = .ok (.aload_n 1, 1) := by decide +kernel
theorem d_law_89 : decode code 89 = .ok (.aload_n 0, 1) := by decide +kernel
theorem d_law_90 : decode code 90 = .ok (.iload_n 3, 1) := by decide +kernel
theorem d_law_91 : decode code 91 = .ok (.iconst 1, 1) := by decide +kernel
theorem d_law_92 : decode code 92 = .ok (.iadd, 1) := by decide +kernel
theorem d_law_93 : decode code 93 = .ok (.iaload, 1) := by decide +kernel
theorem d_law_94 : decode code 94 = .ok (.aload_n 0, 1) := by decide +kernel
theorem d_law_95 : decode code 95 = .ok (.iload_n 3, 1) := by decide +kernel
theorem d_law_96 : decode code 96 = .ok (.iconst 2, 1) := by decide +kernel
theorem d_law_97 : decode code 97 = .ok (.iadd, 1) := by decide +kernel
theorem d_law_98 : decode code 98 = .ok (.iaload, 1) := by decide +kernel
theorem d_law_99 : decode code 99 = .ok (.aload_n 0, 1) := by decide +kernel
theorem d_law_100 : decode code 100 = .ok (.iload_n 3, 1) := by decide +kernel
theorem d_law_101 : decode code 101 = .ok (.iconst 3, 1) := by decide +kernel
theorem d_law_102 : decode code 102 = .ok (.iadd, 1) := by decide +kernel
theorem d_law_103 : decode code 103 = .ok (.iaload, 1) := by decide +kernel
theorem d_law_104 : decode code 104 = .ok (.aload_n 0, 1) := by decide +kernel
theorem d_law_105 : decode code 105 = .ok (.iload_n 3, 1) := by decide +kernel
theorem d_law_106 : decode code 106 = .ok (.iconst 4, 1) := by decide +kernel
theorem d_law_107 : decode code 107 = .ok (.iadd, 1) := by decide +kernel
theorem d_law_108 : decode code 108 = .ok (.iaload, 1) := by decide +kernel
theorem d_law_109 : decode code 109 = .ok (.ifCond .eq 7, 3) := by decide +kernel
theorem d_law_112 : decode code 112 = .ok (.iconst 1, 1) := by decide +kernel
theorem d_law_113 : decode code 113 = .ok (.goto 4, 3) := by decide +kernel
theorem d_law_116 : decode code 116 = .ok (.iconst 0, 1) := by decide +kernel
theorem d_law_117 : decode code 117 = .ok (.invokevirtual 13, 3) := by decide +kernel
theorem d_law_120 : decode code 120 = .ok (.aload_n 2, 1) := by decide +kernel
theorem d_law_121 : decode code 121 = .ok (.aload_n 0, 1) := by decide +kernel
theorem d_law_122 : decode code 122 = .ok (.iload_n 3, 1) := by decide +kernel
theorem d_law_123 : decode code 123 = .ok (.iconst 1, 1) := by decide +kernel
theorem d_law_124 : decode code 124 = .ok (.iadd, 1) := by decide +kernel
theorem d_law_125 : decode code 125 = .ok (.iaload, 1) := by decide +kernel
theorem d_law_126 : decode code 126 = .ok (.aload_n 0, 1) := by decide +kernel
theorem d_law_127 : decode code 127 = .ok (.iload_n 3, 1) := by decide +kernel
theorem d_law_128 : decode code 128 = .ok (.iconst 2, 1) := by decide +kernel
theorem d_law_129 : decode code 129 = .ok (.iadd, 1) := by decide +kernel
theorem d_law_130 : decode code 130 = .ok (.iaload, 1) := by decide +kernel
theorem d_law_131 : decode code 131 = .ok (.aload_n 0, 1) := by decide +kernel
theorem d_law_132 : decode code 132 = .ok (.iload_n 3, 1) := by decide +kernel
theorem d_law_133 : decode code 133 = .ok (.iconst 3, 1) := by decide +kernel
theorem d_law_134 : decode code 134 = .ok (.iadd, 1) := by decide +kernel
theorem d_law_135 : decode code 135 = .ok (.iaload, 1) := by decide +kernel
theorem d_law_136 : decode code 136 = .ok (.aload_n 0, 1) := by decide +kernel
theorem d_law_137 : decode code 137 = .ok (.iload_n 3, 1) := by decide +kernel
theorem d_law_138 : decode code 138 = .ok (.iconst 4, 1) := by decide +kernel
theorem d_law_139 : decode code 139 = .ok (.iadd, 1) := by decide +kernel
theorem d_law_140 : decode code 140 = .ok (.iaload, 1) := by decide +kernel
theorem d_law_141 : decode code 141 = .ok (.ifCond .eq 7, 3) := by decide +kernel
theorem d_law_144 : decode code 144 = .ok (.iconst 1, 1) := by decide +kernel
theorem d_law_145 : decode code 145 = .ok (.goto 4, 3) := by decide +kernel
theorem d_law_148 : decode code 148 = .ok (.iconst 0, 1) := by decide +kernel
theorem d_law_149 : decode code 149 = .ok (.invokevirtual 17, 3) := by decide +kernel
theorem d_law_152 : decode code 152 = .ok (.if_icmp .eq 288, 3) := by decide +kernel
theorem d_law_155 : decode code 155 = .ok (.iconst 0, 1) := by decide +kernel
theorem d_law_156 : decode code 156 = .ok (.ireturn, 1) := by decide +kernel
theorem d_law_157 : decode code 157 = .ok (.aload_n 1, 1) := by decide +kernel
theorem d_law_158 : decode code 158 = .ok (.aload_n 0, 1) := by decide +kernel
theorem d_law_159 : decode code 159 = .ok (.iload_n 3, 1) := by decide +kernel
theorem d_law_160 : decode code 160 = .ok (.iconst 1, 1) := by decide +kernel
theorem d_law_161 : decode code 161 = .ok (.iadd, 1) := by decide +kernel
theorem d_law_162 : decode code 162 = .ok (.iaload, 1) := by decide +kernel
theorem d_law_163 : decode code 163 = .ok (.aload_n 0, 1) := by decide +kernel
theorem d_law_164 : decode code 164 = .ok (.iload_n 3, 1) := by decide +kernel
theorem d_law_165 : decode code 165 = .ok (.iconst 2, 1) := by decide +kernel
theorem d_law_166 : decode code 166 = .ok (.iadd, 1) := by decide +kernel
theorem d_law_167 : decode code 167 = .ok (.iaload, 1) := by decide +kernel
theorem d_law_168 : decode code 168 = .ok (.ifCond .eq 7, 3) := by decide +kernel
theorem d_law_171 : decode code 171 = .ok (.iconst 1, 1) := by decide +kernel
theorem d_law_172 : decode code 172 = .ok (.goto 4, 3) := by decide +kernel
theorem d_law_175 : decode code 175 = .ok (.iconst 0, 1) := by decide +kernel
theorem d_law_176 : decode code 176 = .ok (.invokevirtual 18, 3) := by decide +kernel
theorem d_law_179 : decode code 179 = .ok (.aload_n 2, 1) := by decide +kernel
theorem d_law_180 : decode code 180 = .ok (.aload_n 0, 1) := by decide +kernel
theorem d_law_181 : decode code 181 = .ok (.iload_n 3, 1) := by decide +kernel
theorem d_law_182 : decode code 182 = .ok (.iconst 1, 1) := by decide +kernel
theorem d_law_183 : decode code 183 = .ok (.iadd, 1) := by decide +kernel
theorem d_law_184 : decode code 184 = .ok (.iaload, 1) := by decide +kernel
theorem d_law_185 : decode code 185 = .ok (.aload_n 0, 1) := by decide +kernel
theorem d_law_186 : decode code 186 = .ok (.iload_n 3, 1) := by decide +kernel
theorem d_law_187 : decode code 187 = .ok (.iconst 2, 1) := by decide +kernel
theorem d_law_188 : decode code 188 = .ok (.iadd, 1) := by decide +kernel
theorem d_law_189 : decode code 189 = .ok (.iaload, 1) := by decide +kernel
theorem d_law_190 : decode code 190 = .ok (.ifCond .eq 7, 3) := by decide +kernel
theorem d_law_193 : decode code 193 = .ok (.iconst 1, 1) := by decide +kernel
theorem d_law_194 : decode code 194 = .ok (.goto 4, 3) := by decide +kernel
theorem d_law_197 : decode code 197 = .ok (.iconst 0, 1) := by decide +kernel
theorem d_law_198 : decode code 198 = .ok (.invokevirtual 22, 3) := by decide +kernel
theorem d_law_201 : decode code 201 = .ok (.if_icmp .eq 239, 3) := by decide +kernel
theorem d_law_204 : decode code 204 = .ok (.iconst 0, 1) := by decide +kernel
theorem d_law_205 : decode code 205 = .ok (.ireturn, 1) := by decide +kernel
theorem d_law_206 : decode code 206 = .ok (.aload_n 1, 1) := by decide +kernel
theorem d_law_207 : decode code 207 = .ok (.aload_n 0, 1) := by decide +kernel
theorem d_law_208 : decode code 208 = .ok (.iload_n 3, 1) := by decide +kernel
theorem d_law_209 : decode code 209 = .ok (.iconst 1, 1) := by decide +kernel
theorem d_law_210 : decode code 210 = .ok (.iadd, 1) := by decide +kernel
theorem d_law_211 : decode code 211 = .ok (.iaload, 1) := by decide +kernel
theorem d_law_212 : decode code 212 = .ok (.aload_n 0, 1) := by decide +kernel
theorem d_law_213 : decode code 213 = .ok (.iload_n 3, 1) := by decide +kernel
theorem d_law_214 : decode code 214 = .ok (.iconst 2, 1) := by decide +kernel
theorem d_law_215 : decode code 215 = .ok (.iadd, 1) := by decide +kernel
theorem d_law_216 : decode code 216 = .ok (.iaload, 1) := by decide +kernel
theorem d_law_217 : decode code 217 = .ok (.aload_n 0, 1) := by decide +kernel
theorem d_law_218 : decode code 218 = .ok (.iload_n 3, 1) := by decide +kernel
theorem d_law_219 : decode code 219 = .ok (.iconst 3, 1) := by decide +kernel
theorem d_law_220 : decode code 220 = .ok (.iadd, 1) := by decide +kernel
theorem d_law_221 : decode code 221 = .ok (.iaload, 1) := by decide +kernel
theorem d_law_222 : decode code 222 = .ok (.invokevirtual 23, 3) := by decide +kernel
theorem d_law_225 : decode code 225 = .ok (.aload_n 2, 1) := by decide +kernel
theorem d_law_226 : decode code 226 = .ok (.aload_n 0, 1) := by decide +kernel
theorem d_law_227 : decode code 227 = .ok (.iload_n 3, 1) := by decide +kernel
theorem d_law_228 : decode code 228 = .ok (.iconst 1, 1) := by decide +kernel
theorem d_law_229 : decode code 229 = .ok (.iadd, 1) := by decide +kernel
theorem d_law_230 : decode code 230 = .ok (.iaload, 1) := by decide +kernel
theorem d_law_231 : decode code 231 = .ok (.aload_n 0, 1) := by decide +kernel
theorem d_law_232 : decode code 232 = .ok (.iload_n 3, 1) := by decide +kernel
theorem d_law_233 : decode code 233 = .ok (.iconst 2, 1) := by decide +kernel
theorem d_law_234 : decode code 234 = .ok (.iadd, 1) := by decide +kernel
theorem d_law_235 : decode code 235 = .ok (.iaload, 1) := by decide +kernel
theorem d_law_236 : decode code 236 = .ok (.aload_n 0, 1) := by decide +kernel
theorem d_law_237 : decode code 237 = .ok (.iload_n 3, 1) := by decide +kernel
theorem d_law_238 : decode code 238 = .ok (.iconst 3, 1) := by decide +kernel
theorem d_law_239 : decode code 239 = .ok (.iadd, 1) := by decide +kernel
theorem d_law_240 : decode code 240 = .ok (.iaload, 1) := by decide +kernel
theorem d_law_241 : decode code 241 = .ok (.invokevirtual 27, 3) := by decide +kernel
theorem d_law_244 : decode code 244 = .ok (.if_icmp .eq 196, 3) := by decide +kernel
theorem d_law_247 : decode code 247 = .ok (.iconst 0, 1) := by decide +kernel
theorem d_law_248 : decode code 248 = .ok (.ireturn, 1) := by decide +kernel
theorem d_law_249 : decode code 249 = .ok (.aload_n 1, 1) := by decide +kernel
theorem d_law_250 : decode code 250 = .ok (.aload_n 0, 1) := by decide +kernel
theorem d_law_251 : decode code 251 = .ok (.iload_n 3, 1) := by decide +kernel
theorem d_law_252 : decode code 252 = .ok (.iconst 1, 1) := by decide +kernel
theorem d_law_253 : decode code 253 = .ok (.iadd, 1) := by decide +kernel
theorem d_law_254 : decode code 254 = .ok (.iaload, 1) := by decide +kernel
theorem d_law_255 : decode code 255 = .ok (.invokevirtual 28, 3) := by decide +kernel
theorem d_law_258 : decode code 258 = .ok (.aload_n 2, 1) := by decide +kernel
theorem d_law_259 : decode code 259 = .ok (.aload_n 0, 1) := by decide +kernel
theorem d_law_260 : decode code 260 = .ok (.iload_n 3, 1) := by decide +kernel
theorem d_law_261 : decode code 261 = .ok (.iconst 1, 1) := by decide +kernel
theorem d_law_262 : decode code 262 = .ok (.iadd, 1) := by decide +kernel
theorem d_law_263 : decode code 263 = .ok (.iaload, 1) := by decide +kernel
theorem d_law_264 : decode code 264 = .ok (.invokevirtual 32, 3) := by decide +kernel
theorem d_law_267 : decode code 267 = .ok (.if_icmp .eq 173, 3) := by decide +kernel
theorem d_law_270 : decode code 270 = .ok (.iconst 0, 1) := by decide +kernel
theorem d_law_271 : decode code 271 = .ok (.ireturn, 1) := by decide +kernel
theorem d_law_272 : decode code 272 = .ok (.aload_n 1, 1) := by decide +kernel
theorem d_law_273 : decode code 273 = .ok (.aload_n 0, 1) := by decide +kernel
theorem d_law_274 : decode code 274 = .ok (.iload_n 3, 1) := by decide +kernel
theorem d_law_275 : decode code 275 = .ok (.iconst 1, 1) := by decide +kernel
theorem d_law_276 : decode code 276 = .ok (.iadd, 1) := by decide +kernel
theorem d_law_277 : decode code 277 = .ok (.iaload, 1) := by decide +kernel
theorem d_law_278 : decode code 278 = .ok (.invokevirtual 33, 3) := by decide +kernel
theorem d_law_281 : decode code 281 = .ok (.aload_n 2, 1) := by decide +kernel
theorem d_law_282 : decode code 282 = .ok (.aload_n 0, 1) := by decide +kernel
theorem d_law_283 : decode code 283 = .ok (.iload_n 3, 1) := by decide +kernel
theorem d_law_284 : decode code 284 = .ok (.iconst 1, 1) := by decide +kernel
theorem d_law_285 : decode code 285 = .ok (.iadd, 1) := by decide +kernel
theorem d_law_286 : decode code 286 = .ok (.iaload, 1) := by decide +kernel
theorem d_law_287 : decode code 287 = .ok (.invokevirtual 36, 3) := by decide +kernel
theorem d_law_290 : decode code 290 = .ok (.if_icmp .eq 150, 3) := by decide +kernel
theorem d_law_293 : decode code 293 = .ok (.iconst 0, 1) := by decide +kernel
theorem d_law_294 : decode code 294 = .ok (.ireturn, 1) := by decide +kernel
theorem d_law_295 : decode code 295 = .ok (.aload_n 1, 1) := by decide +kernel
theorem d_law_296 : decode code 296 = .ok (.aload_n 0, 1) := by decide +kernel
theorem d_law_297 : decode code 297 = .ok (.iload_n 3, 1) := by decide +kernel
theorem d_law_298 : decode code 298 = .ok (.iconst 1, 1) := by decide +kernel
theorem d_law_299 : decode code 299 = .ok (.iadd, 1) := by decide +kernel
theorem d_law_300 : decode code 300 = .ok (.iaload, 1) := by decide +kernel
theorem d_law_301 : decode code 301 = .ok (.invokevirtual 37, 3) := by decide +kernel
theorem d_law_304 : decode code 304 = .ok (.aload_n 2, 1) := by decide +kernel
theorem d_law_305 : decode code 305 = .ok (.aload_n 0, 1) := by decide +kernel
theorem d_law_306 : decode code 306 = .ok (.iload_n 3, 1) := by decide +kernel
theorem d_law_307 : decode code 307 = .ok (.iconst 1, 1) := by decide +kernel
theorem d_law_308 : decode code 308 = .ok (.iadd, 1) := by decide +kernel
theorem d_law_309 : decode code 309 = .ok (.iaload, 1) := by decide +kernel
theorem d_law_310 : decode code 310 = .ok (.invokevirtual 40, 3) := by decide +kernel
theorem d_law_313 : decode code 313 = .ok (.if_icmp .eq 127, 3) := by decide +kernel
theorem d_law_316 : decode code 316 = .ok (.iconst 0, 1) := by decide +kernel
theorem d_law_317 : decode code 317 = .ok (.ireturn, 1) := by decide +kernel
theorem d_law_318 : decode code 318 = .ok (.aload_n 1, 1) := by decide +kernel
theorem d_law_319 : decode code 319 = .ok (.aload_n 0, 1) := by decide +kernel
theorem d_law_320 : decode code 320 = .ok (.iload_n 3, 1) := by decide +kernel
theorem d_law_321 : decode code 321 = .ok (.iconst 1, 1) := by decide +kernel
theorem d_law_322 : decode code 322 = .ok (.iadd, 1) := by decide +kernel
theorem d_law_323 : decode code 323 = .ok (.iaload, 1) := by decide +kernel
theorem d_law_324 : decode code 324 = .ok (.aload_n 0, 1) := by decide +kernel
theorem d_law_325 : decode code 325 = .ok (.iload_n 3, 1) := by decide +kernel
theorem d_law_326 : decode code 326 = .ok (.iconst 2, 1) := by decide +kernel
theorem d_law_327 : decode code 327 = .ok (.iadd, 1) := by decide +kernel
theorem d_law_328 : decode code 328 = .ok (.iaload, 1) := by decide +kernel
theorem d_law_329 : decode code 329 = .ok (.invokevirtual 41, 3) := by decide +kernel
theorem d_law_332 : decode code 332 = .ok (.aload_n 2, 1) := by decide +kernel
theorem d_law_333 : decode code 333 = .ok (.aload_n 0, 1) := by decide +kernel
theorem d_law_334 : decode code 334 = .ok (.iload_n 3, 1) := by decide +kernel
theorem d_law_335 : decode code 335 = .ok (.iconst 1, 1) := by decide +kernel
theorem d_law_336 : decode code 336 = .ok (.iadd, 1) := by decide +kernel
theorem d_law_337 : decode code 337 = .ok (.iaload, 1) := by decide +kernel
theorem d_law_338 : decode code 338 = .ok (.aload_n 0, 1) := by decide +kernel
theorem d_law_339 : decode code 339 = .ok (.iload_n 3, 1) := by decide +kernel
theorem d_law_340 : decode code 340 = .ok (.iconst 2, 1) := by decide +kernel
theorem d_law_341 : decode code 341 = .ok (.iadd, 1) := by decide +kernel
theorem d_law_342 : decode code 342 = .ok (.iaload, 1) := by decide +kernel
theorem d_law_343 : decode code 343 = .ok (.invokevirtual 45, 3) := by decide +kernel
theorem d_law_346 : decode code 346 = .ok (.if_icmp .eq 94, 3) := by decide +kernel
theorem d_law_349 : decode code 349 = .ok (.iconst 0, 1) := by decide +kernel
theorem d_law_350 : decode code 350 = .ok (.ireturn, 1) := by decide +kernel
theorem d_law_351 : decode code 351 = .ok (.aload_n 1, 1) := by decide +kernel
theorem d_law_352 : decode code 352 = .ok (.aload_n 0, 1) := by decide +kernel
theorem d_law_353 : decode code 353 = .ok (.iload_n 3, 1) := by decide +kernel
theorem d_law_354 : decode code 354 = .ok (.iconst 1, 1) := by decide +kernel
theorem d_law_355 : decode code 355 = .ok (.iadd, 1) := by decide +kernel
theorem d_law_356 : decode code 356 = .ok (.iaload, 1) := by decide +kernel
theorem d_law_357 : decode code 357 = .ok (.aload_n 0, 1) := by decide +kernel
theorem d_law_358 : decode code 358 = .ok (.iload_n 3, 1) := by decide +kernel
theorem d_law_359 : decode code 359 = .ok (.iconst 2, 1) := by decide +kernel
theorem d_law_360 : decode code 360 = .ok (.iadd, 1) := by decide +kernel
theorem d_law_361 : decode code 361 = .ok (.iaload, 1) := by decide +kernel
theorem d_law_362 : decode code 362 = .ok (.invokevirtual 46, 3) := by decide +kernel
theorem d_law_365 : decode code 365 = .ok (.aload_n 2, 1) := by decide +kernel
theorem d_law_366 : decode code 366 = .ok (.aload_n 0, 1) := by decide +kernel
theorem d_law_367 : decode code 367 = .ok (.iload_n 3, 1) := by decide +kernel
theorem d_law_368 : decode code 368 = .ok (.iconst 1, 1) := by decide +kernel
theorem d_law_369 : decode code 369 = .ok (.iadd, 1) := by decide +kernel
theorem d_law_370 : decode code 370 = .ok (.iaload, 1) := by decide +kernel
theorem d_law_371 : decode code 371 = .ok (.aload_n 0, 1) := by decide +kernel
theorem d_law_372 : decode code 372 = .ok (.iload_n 3, 1) := by decide +kernel
theorem d_law_373 : decode code 373 = .ok (.iconst 2, 1) := by decide +kernel
theorem d_law_374 : decode code 374 = .ok (.iadd, 1) := by decide +kernel
theorem d_law_375 : decode code 375 = .ok (.iaload, 1) := by decide +kernel
theorem d_law_376 : decode code 376 = .ok (.invokevirtual 49, 3) := by decide +kernel
theorem d_law_379 : decode code 379 = .ok (.if_icmp .eq 61, 3) := by decide +kernel
theorem d_law_382 : decode code 382 = .ok (.iconst 0, 1) := by decide +kernel
theorem d_law_383 : decode code 383 = .ok (.ireturn, 1) := by decide +kernel
theorem d_law_384 : decode code 384 = .ok (.aload_n 1, 1) := by decide +kernel
theorem d_law_385 : decode code 385 = .ok (.aload_n 0, 1) := by decide +kernel
theorem d_law_386 : decode code 386 = .ok (.iload_n 3, 1) := by decide +kernel
theorem d_law_387 : decode code 387 = .ok (.iconst 1, 1) := by decide +kernel
theorem d_law_388 : decode code 388 = .ok (.iadd, 1) := by decide +kernel
theorem d_law_389 : decode code 389 = .ok (.iaload, 1) := by decide +kernel
theorem d_law_390 : decode code 390 = .ok (.invokevirtual 50, 3) := by decide +kernel
theorem d_law_393 : decode code 393 = .ok (.aload_n 2, 1) := by decide +kernel
theorem d_law_394 : decode code 394 = .ok (.aload_n 0, 1) := by decide +kernel
theorem d_law_395 : decode code 395 = .ok (.iload_n 3, 1) := by decide +kernel
theorem d_law_396 : decode code 396 = .ok (.iconst 1, 1) := by decide +kernel
theorem d_law_397 : decode code 397 = .ok (.iadd, 1) := by decide +kernel
theorem d_law_398 : decode code 398 = .ok (.iaload, 1) := by decide +kernel
theorem d_law_399 : decode code 399 = .ok (.invokevirtual 53, 3) := by decide +kernel
theorem d_law_402 : decode code 402 = .ok (.if_icmp .eq 38, 3) := by decide +kernel
theorem d_law_405 : decode code 405 = .ok (.iconst 0, 1) := by decide +kernel
theorem d_law_406 : decode code 406 = .ok (.ireturn, 1) := by decide +kernel
theorem d_law_407 : decode code 407 = .ok (.aload_n 1, 1) := by decide +kernel
theorem d_law_408 : decode code 408 = .ok (.aload_n 0, 1) := by decide +kernel
theorem d_law_409 : decode code 409 = .ok (.iload_n 3, 1) := by decide +kernel
theorem d_law_410 : decode code 410 = .ok (.iconst 1, 1) := by decide +kernel
theorem d_law_411 : decode code 411 = .ok (.iadd, 1) := by decide +kernel
theorem d_law_412 : decode code 412 = .ok (.iaload, 1) := by decide +kernel
theorem d_law_413 : decode code 413 = .ok (.aload_n 0, 1) := by decide +kernel
theorem d_law_414 : decode code 414 = .ok (.iload_n 3, 1) := by decide +kernel
theorem d_law_415 : decode code 415 = .ok (.iconst 2, 1) := by decide +kernel
theorem d_law_416 : decode code 416 = .ok (.iadd, 1) := by decide +kernel
theorem d_law_417 : decode code 417 = .ok (.iaload, 1) := by decide +kernel
theorem d_law_418 : decode code 418 = .ok (.invokevirtual 54, 3) := by decide +kernel
theorem d_law_421 : decode code 421 = .ok (.aload_n 2, 1) := by decide +kernel
theorem d_law_422 : decode code 422 = .ok (.aload_n 0, 1) := by decide +kernel
theorem d_law_423 : decode code 423 = .ok (.iload_n 3, 1) := by decide +kernel
theorem d_law_424 : decode code 424 = .ok (.iconst 1, 1) := by decide +kernel
theorem d_law_425 : decode code 425 = .ok (.iadd, 1) := by decide +kernel
theorem d_law_426 : decode code 426 = .ok (.iaload, 1) := by decide +kernel
theorem d_law_427 : decode code 427 = .ok (.aload_n 0, 1) := by decide +kernel
theorem d_law_428 : decode code 428 = .ok (.iload_n 3, 1) := by decide +kernel
theorem d_law_429 : decode code 429 = .ok (.iconst 2, 1) := by decide +kernel
theorem d_law_430 : decode code 430 = .ok (.iadd, 1) := by decide +kernel
theorem d_law_431 : decode code 431 = .ok (.iaload, 1) := by decide +kernel
theorem d_law_432 : decode code 432 = .ok (.invokevirtual 57, 3) := by decide +kernel
theorem d_law_435 : decode code 435 = .ok (.if_icmp .eq 5, 3) := by decide +kernel
theorem d_law_438 : decode code 438 = .ok (.iconst 0, 1) := by decide +kernel
theorem d_law_439 : decode code 439 = .ok (.ireturn, 1) := by decide +kernel
theorem d_law_440 : decode code 440 = .ok (.iinc 3 5, 3) := by decide +kernel
theorem d_law_443 : decode code 443 = .ok (.goto (-425), 3) := by decide +kernel
theorem d_law_446 : decode code 446 = .ok (.iconst 1, 1) := by decide +kernel
theorem d_law_447 : decode code 447 = .ok (.ireturn, 1) := by decide +kernel
end
section
/-! ===== a judgement over worlds: from any heap that holds the world ws, any locals that hold L ===== -/
abbrev Ctx : Type := Program × Launch × Env × Room × State × MethodId × Array Value × List Frame × Method × Code × (Nat → Prop)
abbrev Gid : Type := va_G × (Nat → ClassId)
def tysG (G : Gid) : List (ClassId × FieldType) := [(G.2 0, .int), (G.2 1, .boolean), (G.2 2, .object "TimerGates$Timer"), (G.2 3, .object "TimerGates$Gate")]
def lx (ls : Array Slot) (L : List (Option Value)) : Prop := ls.size = L.length ∧ lv_wf ls ∧ ∀ (i : Nat) (v : Value), L[i]? = some (some v) → ls[i]? = some (.val v) ∧ v.category = 1
def Nst (U : State) : Prop := (∀ w ∈ nestW, va_Nw w U) ∧ va_AO "TimerGates$Timer" U ∧ va_AO "TimerGates$Gate" U
def KG (G : Gid) (U : State) : Prop := va_K G.1 classes (tysG G) U ∧ Nst U
theorem Nst.warm {s U : State} (hW : s.WarmedH U.vm) (h : Nst s) : Nst U := by
  refine ⟨fun w hw => ?_, h.2.1.moved hW.alike, h.2.2.moved hW.alike⟩
  have h1 := h.1 w hw
  simp only [nestW, List.mem_cons, List.not_mem_nil, or_false] at hw
  rcases hw with rfl | rfl | rfl | rfl | rfl | rfl | rfl | rfl | rfl | rfl | rfl | rfl | rfl | rfl | rfl | rfl | rfl | rfl | rfl <;> first | exact va_Nw.warmF hW h1 | exact va_Nw.warmM hW h1
theorem nest_on : ∀ w ∈ nestW, w.onTables = true := by decide +kernel
theorem Nst.same {u U : State} (hv : u.vm = U.vm) (h : Nst u) : Nst U := ⟨fun w hw => va_Nw.same (nest_on w hw) hv (h.1 w hw), h.2.1.moved (by rw [hv]; exact Vm.Alike.refl _), h.2.2.moved (by rw [hv]; exact Vm.Alike.refl _)⟩
theorem KG.warm {G : Gid} {s U : State} (hW : s.WarmedH U.vm) (h : KG G s) : KG G U := ⟨va_K.moved hW.alike h.1, h.2.warm hW⟩
theorem KG.same {G : Gid} {u U : State} (hv : u.vm = U.vm) (h : KG G u) : KG G U := ⟨va_K.moved (by rw [hv]; exact Vm.Alike.refl _) h.1, h.2.same hv⟩
def J (x : Ctx) (G : Gid) (a b : Nat) (Q : State → Prop) (ws : va_W) (pc : Nat) (L : List (Option Value)) (st : List Value) : Prop := match x with
  | (p, l, e, R, s, m, args, below, meth, c, A) => ∀ (H : Heap) (locs : List Loc) (ls : Array Slot), va_P G.1 classes ws H → va_D A ws → va_S A s.heap H locs → lx ls L → W p l e R s m args below meth c H locs a b Q (F0 m pc ls st)
def Fix (x : Ctx) (G : Gid) (cc : ByteArray) (nL : Nat) (own : String) (rt : Option FieldType) (rm : Room) : Prop := match x with
  | (p, l, e, R, s, m, args, below, meth, c, A) => CallFix p m c cc nL s args gtbl own ∧ KG G s ∧ (∀ q, s.heap.size ≤ q → A q) ∧ meth.locks = false ∧ meth.sig.returnType = rt ∧ R = rm
def Named (x : Ctx) (n : String) : Prop := match x with
  | (_, _, _, _, _, _, _, _, meth, _, _) => meth.name = n
def lq (L : List (Option Value)) : List (Nat × Value) := (List.range L.length).filterMap (fun i => match L[i]? with
  | some (some v) => some (i, v)
  | _ => none)
theorem lx_has {ls : Array Slot} {L : List (Option Value)} (h : lx ls L) : lv_has ls L.length (lq L) := by
  refine ⟨h.1, h.2.1, fun q hq => ?_⟩
  obtain ⟨i, hi, e⟩ := List.mem_filterMap.mp hq
  split at e
  · rename_i v hv
    cases e
    exact (h.2.2 i v hv).1
  · cases e
theorem lx_set {ls ls' : Array Slot} {L : List (Option Value)} {i : Nat} {v : Value} (hn : i < L.length) (hv : v.category = 1) (h0 : lx ls L) (h : lv_has ls' L.length ((i, v) :: (lq L).filter (fun q => !(q.1 == i) && !(q.1 + 1 == i && q.2.category == 2)))) : lx ls' (L.set i (some v)) := by
  refine ⟨by rw [h.1, List.length_set], h.2.1, fun j w hj => ?_⟩
  by_cases e : j = i
  · subst e
    rw [List.getElem?_set_self hn] at hj
    cases hj
    exact ⟨h.2.2 _ List.mem_cons_self, hv⟩
  · rw [List.getElem?_set_ne (Ne.symm e)] at hj
    have h2 := h0.2.2 j w hj
    have hlt : j < L.length := (List.getElem?_eq_some_iff.mp hj).1
    refine ⟨h.2.2 (j, w) (List.mem_cons_of_mem _ (List.mem_filter.mpr ⟨List.mem_filterMap.mpr ⟨j, List.mem_range.mpr hlt, ?_⟩, ?_⟩)), h2.2⟩
    · rw [hj]
    · simp [e, h2.2]
theorem lg_len {av : List Value} (h : av.all (fun v => v.category == 1) = true) : (lg_sl av).length = av.length := by
  induction av with
  | nil => rfl
  | cons v t ih =>
    simp only [List.all_cons, Bool.and_eq_true, beq_iff_eq] at h
    have h1 : lg_sl (v :: t) = .val v :: lg_sl t := by simp [lg_sl, h.1]
    rw [h1, List.length_cons, List.length_cons, ih h.2]
theorem lv_args_get {av : List Value} (h : av.all (fun v => v.category == 1) = true) : ∀ (k i : Nat) (v : Value), av[i]? = some v → (k + i, v) ∈ lv_args k av := by
  induction av with
  | nil => intro k i v hv; simp at hv
  | cons w t ih =>
    intro k i v hv
    simp only [List.all_cons, Bool.and_eq_true, beq_iff_eq] at h
    unfold lv_args
    cases i with
    | zero =>
      rw [List.getElem?_cons_zero] at hv
      cases hv
      exact List.mem_cons_self
    | succ i =>
      rw [List.getElem?_cons_succ] at hv
      have h2 : ¬ w.category = 2 := by rw [h.1]; decide
      rw [if_neg h2]
      have h3 := ih h.2 (k + 1) i v hv
      rw [show k + (i + 1) = k + 1 + i by omega]
      exact List.mem_cons_of_mem _ h3
theorem lx_entry {av : List Value} {n : Nat} (h : av.all (fun v => v.category == 1) = true) (hn : av.length ≤ n) : lx ((lg_sl av ++ List.replicate (n - (lg_sl av).length) Slot.unset).toArray) (av.map some ++ List.replicate (n - av.length) none) := by
  have h1 := lv_entry av (n := n) (by rw [lg_len h]; exact hn)
  refine ⟨by rw [h1.1]; simp; omega, h1.2.1, fun i v hi => ?_⟩
  by_cases hl : i < (av.map some).length
  · rw [List.getElem?_append_left hl, List.getElem?_map] at hi
    cases hv : av[i]? with
    | none => rw [hv] at hi; cases hi
    | some w =>
      rw [hv] at hi
      cases hi
      have h2 := lv_args_get h 0 i v hv
      rw [Nat.zero_add] at h2
      refine ⟨h1.2.2 (i, v) h2, ?_⟩
      have h3 := List.all_eq_true.mp h v (List.mem_of_getElem? hv)
      simpa using h3
  · rw [List.getElem?_append_right (by omega)] at hi
    have h2 := List.eq_of_mem_replicate (List.mem_of_getElem? hi)
    cases h2
section JR
variable {x : Ctx} {G : Gid} {a b : Nat} {Q : State → Prop} {ws : va_W} {pc : Nat} {L L' : List (Option Value)} {st rest : List Value} {cc : ByteArray} {nL : Nat} {own : String} {rt : Option FieldType} {rm : Room}
theorem j_eqw {ws' : va_W} (h : ws = ws') (k : J x G a b Q ws' pc L st) : J x G a b Q ws pc L st := h ▸ k
theorem j_top {v v' : Int32} (h : v = v') (k : J x G a b Q ws pc L (.int v' :: st)) : J x G a b Q ws pc L (.int v :: st) := h ▸ k
theorem j_eqst {st' : List Value} (h : st = st') (k : J x G a b Q ws pc L st') : J x G a b Q ws pc L st := h ▸ k
theorem j_eqL {L' : List (Option Value)} (h : L = L') (k : J x G a b Q ws pc L' st) : J x G a b Q ws pc L st := h ▸ k
theorem j_widen {a' b' : Nat} (h1 : a ≤ a') (h2 : b ≤ b') (k : J x G a' b' Q ws pc L st) : J x G a b Q ws pc L st := by
  obtain ⟨p, l, e, R, s, m, args, below, meth, c, A⟩ := x
  intro H locs ls hP hD hS hl
  exact W.widen h1 h2 (k H locs ls hP hD hS hl)
theorem j_iconst {n : Int} {v : Int32} (X : Fix x G cc nL own rt rm) (hd : decode cc pc = .ok (.iconst n, 1)) (hv : Int32.ofInt n = v) (kk : J x G a b Q ws (pc + 1) L (.int v :: st)) : J x G a b Q ws pc L st := by
  obtain ⟨p, l, e, R, s, m, args, below, meth, c, A⟩ := x
  intro H locs ls hP hD hS hl
  exact lv_iconst X.1.1 X.1.2.1 hd hv (kk H locs ls hP hD hS hl)
theorem j_bipush {n : Int} {v : Int32} (X : Fix x G cc nL own rt rm) (hd : decode cc pc = .ok (.bipush n, 2)) (hv : (Int8.ofInt n).toInt32 = v) (kk : J x G a b Q ws (pc + 2) L (.int v :: st)) : J x G a b Q ws pc L st := by
  obtain ⟨p, l, e, R, s, m, args, below, meth, c, A⟩ := x
  intro H locs ls hP hD hS hl
  exact lv_bipush X.1.1 X.1.2.1 hd hv (kk H locs ls hP hD hS hl)
theorem j_sipush {n : Int} {v : Int32} (X : Fix x G cc nL own rt rm) (hd : decode cc pc = .ok (.sipush n, 3)) (hv : (Int16.ofInt n).toInt32 = v) (kk : J x G a b Q ws (pc + 3) L (.int v :: st)) : J x G a b Q ws pc L st := by
  obtain ⟨p, l, e, R, s, m, args, below, meth, c, A⟩ := x
  intro H locs ls hP hD hS hl
  exact lv_sipush X.1.1 X.1.2.1 hd hv (kk H locs ls hP hD hS hl)
theorem j_iload_n {k : Fin 4} {v : Int32} (X : Fix x G cc nL own rt rm) (hd : decode cc pc = .ok (.iload_n k, 1)) (hl0 : L[k.val]? = some (some (.int v))) (kk : J x G a b Q ws (pc + 1) L (.int v :: st)) : J x G a b Q ws pc L st := by
  obtain ⟨p, l, e, R, s, m, args, below, meth, c, A⟩ := x
  intro H locs ls hP hD hS hl
  exact lv_iload_n X.1.1 X.1.2.1 hd rfl (hl.2.2 _ _ hl0).1 (kk H locs ls hP hD hS hl)
theorem j_iload {k : Nat} {v : Int32} (X : Fix x G cc nL own rt rm) (hd : decode cc pc = .ok (.iload k, 2)) (hl0 : L[k]? = some (some (.int v))) (kk : J x G a b Q ws (pc + 2) L (.int v :: st)) : J x G a b Q ws pc L st := by
  obtain ⟨p, l, e, R, s, m, args, below, meth, c, A⟩ := x
  intro H locs ls hP hD hS hl
  exact lv_iload X.1.1 X.1.2.1 hd (hl.2.2 _ _ hl0).1 (kk H locs ls hP hD hS hl)
theorem j_aload_n {k : Fin 4} {v : Nat} (X : Fix x G cc nL own rt rm) (hd : decode cc pc = .ok (.aload_n k, 1)) (hl0 : L[k.val]? = some (some (.ref v))) (kk : J x G a b Q ws (pc + 1) L (.ref v :: st)) : J x G a b Q ws pc L st := by
  obtain ⟨p, l, e, R, s, m, args, below, meth, c, A⟩ := x
  intro H locs ls hP hD hS hl
  exact lv_aload_n X.1.1 X.1.2.1 hd rfl (hl.2.2 _ _ hl0).1 (kk H locs ls hP hD hS hl)
theorem j_aload {k : Nat} {v : Nat} (X : Fix x G cc nL own rt rm) (hd : decode cc pc = .ok (.aload k, 2)) (hl0 : L[k]? = some (some (.ref v))) (kk : J x G a b Q ws (pc + 2) L (.ref v :: st)) : J x G a b Q ws pc L st := by
  obtain ⟨p, l, e, R, s, m, args, below, meth, c, A⟩ := x
  intro H locs ls hP hD hS hl
  exact lv_aload X.1.1 X.1.2.1 hd (hl.2.2 _ _ hl0).1 (kk H locs ls hP hD hS hl)
theorem j_istore_n {k : Fin 4} {v : Int32} (X : Fix x G cc nL own rt rm) (hd : decode cc pc = .ok (.istore_n k, 1)) (hn : k.val < L.length) (kk : J x G a b Q ws (pc + 1) (L.set k.val (some (.int v))) st) : J x G a b Q ws pc L (.int v :: st) := by
  obtain ⟨p, l, e, R, s, m, args, below, meth, c, A⟩ := x
  intro H locs ls hP hD hS hl
  exact lv_istore_n X.1.1 X.1.2.1 hd rfl (lx_has hl) hn rfl (fun ls' h' => kk H locs ls' hP hD hS (lx_set hn rfl hl h'))
theorem j_istore {k : Nat} {v : Int32} (X : Fix x G cc nL own rt rm) (hd : decode cc pc = .ok (.istore k, 2)) (hn : k < L.length) (kk : J x G a b Q ws (pc + 2) (L.set k (some (.int v))) st) : J x G a b Q ws pc L (.int v :: st) := by
  obtain ⟨p, l, e, R, s, m, args, below, meth, c, A⟩ := x
  intro H locs ls hP hD hS hl
  exact lv_istore X.1.1 X.1.2.1 hd (lx_has hl) hn rfl (fun ls' h' => kk H locs ls' hP hD hS (lx_set hn rfl hl h'))
theorem j_astore_n {k : Fin 4} {v : Nat} (X : Fix x G cc nL own rt rm) (hd : decode cc pc = .ok (.astore_n k, 1)) (hn : k.val < L.length) (kk : J x G a b Q ws (pc + 1) (L.set k.val (some (.ref v))) st) : J x G a b Q ws pc L (.ref v :: st) := by
  obtain ⟨p, l, e, R, s, m, args, below, meth, c, A⟩ := x
  intro H locs ls hP hD hS hl
  exact lv_astore_n X.1.1 X.1.2.1 hd rfl (lx_has hl) hn rfl (fun ls' h' => kk H locs ls' hP hD hS (lx_set hn rfl hl h'))
theorem j_astore {k : Nat} {v : Nat} (X : Fix x G cc nL own rt rm) (hd : decode cc pc = .ok (.astore k, 2)) (hn : k < L.length) (kk : J x G a b Q ws (pc + 2) (L.set k (some (.ref v))) st) : J x G a b Q ws pc L (.ref v :: st) := by
  obtain ⟨p, l, e, R, s, m, args, below, meth, c, A⟩ := x
  intro H locs ls hP hD hS hl
  exact lv_astore X.1.1 X.1.2.1 hd (lx_has hl) hn rfl (fun ls' h' => kk H locs ls' hP hD hS (lx_set hn rfl hl h'))
theorem lq_at {i : Nat} {v : Value} (h : L[i]? = some (some v)) : ∃ k : Nat, (lq L)[k]? = some (i, v) := by
  have hlt : i < L.length := (List.getElem?_eq_some_iff.mp h).1
  have hm : (i, v) ∈ lq L := List.mem_filterMap.mpr ⟨i, List.mem_range.mpr hlt, by rw [h]⟩
  obtain ⟨k, hk⟩ := List.getElem?_of_mem hm
  exact ⟨k, hk⟩
theorem j_iinc {i : Nat} {n : Int} {u v : Int32} (X : Fix x G cc nL own rt rm) (hd : decode cc pc = .ok (.iinc i n, 3)) (hl0 : L[i]? = some (some (.int u))) (hv : u + Int32.ofInt n = v) (kk : J x G a b Q ws (pc + 3) (L.set i (some (.int v))) st) : J x G a b Q ws pc L st := by
  obtain ⟨p, l, e, R, s, m, args, below, meth, c, A⟩ := x
  intro H locs ls hP hD hS hl
  have hn : i < L.length := (List.getElem?_eq_some_iff.mp hl0).1
  obtain ⟨k, hk⟩ := lq_at hl0
  exact lv_iinc X.1.1 X.1.2.1 hd (lx_has hl) hk hv hn rfl (fun ls' h' => kk H locs ls' hP hD hS (lx_set hn rfl hl h'))
theorem j_iadd {u v : Int32} (X : Fix x G cc nL own rt rm) (hd : decode cc pc = .ok (.iadd, 1)) (kk : J x G a b Q ws (pc + 1) L (.int (u + v) :: st)) : J x G a b Q ws pc L (.int v :: .int u :: st) := by
  obtain ⟨p, l, e, R, s, m, args, below, meth, c, A⟩ := x
  intro H locs ls hP hD hS hl
  exact lv_iadd X.1.1 X.1.2.1 hd (kk H locs ls hP hD hS hl)
theorem j_isub {u v : Int32} (X : Fix x G cc nL own rt rm) (hd : decode cc pc = .ok (.isub, 1)) (kk : J x G a b Q ws (pc + 1) L (.int (u - v) :: st)) : J x G a b Q ws pc L (.int v :: .int u :: st) := by
  obtain ⟨p, l, e, R, s, m, args, below, meth, c, A⟩ := x
  intro H locs ls hP hD hS hl
  exact lv_isub X.1.1 X.1.2.1 hd (kk H locs ls hP hD hS hl)
theorem j_imul {u v : Int32} (X : Fix x G cc nL own rt rm) (hd : decode cc pc = .ok (.imul, 1)) (kk : J x G a b Q ws (pc + 1) L (.int (u * v) :: st)) : J x G a b Q ws pc L (.int v :: .int u :: st) := by
  obtain ⟨p, l, e, R, s, m, args, below, meth, c, A⟩ := x
  intro H locs ls hP hD hS hl
  exact lv_imul X.1.1 X.1.2.1 hd (kk H locs ls hP hD hS hl)
theorem j_iand {u v : Int32} (X : Fix x G cc nL own rt rm) (hd : decode cc pc = .ok (.iand, 1)) (kk : J x G a b Q ws (pc + 1) L (.int (u &&& v) :: st)) : J x G a b Q ws pc L (.int v :: .int u :: st) := by
  obtain ⟨p, l, e, R, s, m, args, below, meth, c, A⟩ := x
  intro H locs ls hP hD hS hl
  exact lv_iand X.1.1 X.1.2.1 hd (kk H locs ls hP hD hS hl)
theorem j_ior {u v : Int32} (X : Fix x G cc nL own rt rm) (hd : decode cc pc = .ok (.ior, 1)) (kk : J x G a b Q ws (pc + 1) L (.int (u ||| v) :: st)) : J x G a b Q ws pc L (.int v :: .int u :: st) := by
  obtain ⟨p, l, e, R, s, m, args, below, meth, c, A⟩ := x
  intro H locs ls hP hD hS hl
  exact lv_ior X.1.1 X.1.2.1 hd (kk H locs ls hP hD hS hl)
theorem j_ixor {u v : Int32} (X : Fix x G cc nL own rt rm) (hd : decode cc pc = .ok (.ixor, 1)) (kk : J x G a b Q ws (pc + 1) L (.int (u ^^^ v) :: st)) : J x G a b Q ws pc L (.int v :: .int u :: st) := by
  obtain ⟨p, l, e, R, s, m, args, below, meth, c, A⟩ := x
  intro H locs ls hP hD hS hl
  exact lv_ixor X.1.1 X.1.2.1 hd (kk H locs ls hP hD hS hl)
theorem j_ishl {u v : Int32} (X : Fix x G cc nL own rt rm) (hd : decode cc pc = .ok (.ishl, 1)) (kk : J x G a b Q ws (pc + 1) L (.int (u <<< (v &&& 31)) :: st)) : J x G a b Q ws pc L (.int v :: .int u :: st) := by
  obtain ⟨p, l, e, R, s, m, args, below, meth, c, A⟩ := x
  intro H locs ls hP hD hS hl
  exact lv_ishl X.1.1 X.1.2.1 hd (kk H locs ls hP hD hS hl)
theorem j_ishr {u v : Int32} (X : Fix x G cc nL own rt rm) (hd : decode cc pc = .ok (.ishr, 1)) (kk : J x G a b Q ws (pc + 1) L (.int (u >>> (v &&& 31)) :: st)) : J x G a b Q ws pc L (.int v :: .int u :: st) := by
  obtain ⟨p, l, e, R, s, m, args, below, meth, c, A⟩ := x
  intro H locs ls hP hD hS hl
  exact lv_ishr X.1.1 X.1.2.1 hd (kk H locs ls hP hD hS hl)
theorem j_irem {u v : Int32} (X : Fix x G cc nL own rt rm) (hd : decode cc pc = .ok (.irem, 1)) (hne : ¬ v = 0) (kk : J x G a b Q ws (pc + 1) L (.int (u - u / v * v) :: st)) : J x G a b Q ws pc L (.int v :: .int u :: st) := by
  obtain ⟨p, l, e, R, s, m, args, below, meth, c, A⟩ := x
  intro H locs ls hP hD hS hl
  exact lv_irem X.1.1 X.1.2.1 hd hne (kk H locs ls hP hD hS hl)
theorem j_iushr {u v w : Int32} (X : Fix x G cc nL own rt rm) (hd : decode cc pc = .ok (.iushr, 1)) (hv : (u.toUInt32 >>> (v.toUInt32 &&& Int32.toUInt32 31)).toInt32 = w) (kk : J x G a b Q ws (pc + 1) L (.int w :: st)) : J x G a b Q ws pc L (.int v :: .int u :: st) := by
  obtain ⟨p, l, e, R, s, m, args, below, meth, c, A⟩ := x
  intro H locs ls hP hD hS hl
  exact lv_iushr X.1.1 X.1.2.1 hd hv (kk H locs ls hP hD hS hl)
theorem j_dup {v : Value} (X : Fix x G cc nL own rt rm) (hd : decode cc pc = .ok (.dup, 1)) (hv : v.category = 1) (kk : J x G a b Q ws (pc + 1) L (v :: v :: st)) : J x G a b Q ws pc L (v :: st) := by
  obtain ⟨p, l, e, R, s, m, args, below, meth, c, A⟩ := x
  intro H locs ls hP hD hS hl
  exact lv_dup X.1.1 X.1.2.1 hd hv (kk H locs ls hP hD hS hl)
theorem j_dup2 {v w : Value} (X : Fix x G cc nL own rt rm) (hd : decode cc pc = .ok (.dup2, 1)) (hv : v.category = 1) (hw : w.category = 1) (kk : J x G a b Q ws (pc + 1) L (v :: w :: v :: w :: st)) : J x G a b Q ws pc L (v :: w :: st) := by
  obtain ⟨p, l, e, R, s, m, args, below, meth, c, A⟩ := x
  intro H locs ls hP hD hS hl
  exact lv_dup2_11 X.1.1 X.1.2.1 hd hv hw (kk H locs ls hP hD hS hl)
theorem j_goto {off : Int} {tgt : Nat} (X : Fix x G cc nL own rt rm) (hd : decode cc pc = .ok (.goto off, 3)) (ht : (pc : Int) + off = (tgt : Int)) (kk : J x G a b Q ws tgt L st) : J x G a b Q ws pc L st := by
  obtain ⟨p, l, e, R, s, m, args, below, meth, c, A⟩ := x
  intro H locs ls hP hD hS hl
  exact lv_goto X.1.1 X.1.2.1 hd ht (kk H locs ls hP hD hS hl)
theorem j_ldc {i : Nat} {v : Int32} (X : Fix x G cc nL own rt rm) (hc : Cond.constant own i v ∈ gtbl) (hd : decode cc pc = .ok (.ldc i, 2)) (kk : J x G a b Q ws (pc + 2) L (.int v :: st)) : J x G a b Q ws pc L st := by
  obtain ⟨p, l, e, R, s, m, args, below, meth, c, A⟩ := x
  intro H locs ls hP hD hS hl
  exact lv_ldc X.1.1 X.1.2.1 X.1.2.2.2.1 (X.1.2.2.2.2 _ hc) hd (kk H locs ls hP hD hS hl)
theorem j_ldcw {i : Nat} {v : Int32} (X : Fix x G cc nL own rt rm) (hc : Cond.constant own i v ∈ gtbl) (hd : decode cc pc = .ok (.ldc_w i, 3)) (kk : J x G a b Q ws (pc + 3) L (.int v :: st)) : J x G a b Q ws pc L st := by
  obtain ⟨p, l, e, R, s, m, args, below, meth, c, A⟩ := x
  intro H locs ls hP hD hS hl
  exact lv_ldcw X.1.1 X.1.2.1 X.1.2.2.2.1 (X.1.2.2.2.2 _ hc) hd (kk H locs ls hP hD hS hl)
theorem j_if_eq {u : Int32} {off : Int} {tgt : Nat} (X : Fix x G cc nL own rt rm) (hd : decode cc pc = .ok (.ifCond .eq off, 3)) (ht : (pc : Int) + off = (tgt : Int)) (kt : u = 0 → J x G a b Q ws tgt L st) (kf : ¬ u = 0 → J x G a b Q ws (pc + 3) L st) : J x G a b Q ws pc L (.int u :: st) := by
  obtain ⟨p, l, e, R, s, m, args, below, meth, c, A⟩ := x
  intro H locs ls hP hD hS hl
  exact lv_if_eq X.1.1 X.1.2.1 hd ht (fun h => kt h H locs ls hP hD hS hl) (fun h => kf h H locs ls hP hD hS hl)
theorem j_icmp_eq {u v : Int32} {off : Int} {tgt : Nat} (X : Fix x G cc nL own rt rm) (hd : decode cc pc = .ok (.if_icmp .eq off, 3)) (ht : (pc : Int) + off = (tgt : Int)) (kt : u = v → J x G a b Q ws tgt L st) (kf : ¬ u = v → J x G a b Q ws (pc + 3) L st) : J x G a b Q ws pc L (.int v :: .int u :: st) := by
  obtain ⟨p, l, e, R, s, m, args, below, meth, c, A⟩ := x
  intro H locs ls hP hD hS hl
  exact lv_icmp_eq X.1.1 X.1.2.1 hd ht (fun h => kt h H locs ls hP hD hS hl) (fun h => kf h H locs ls hP hD hS hl)
theorem j_if_ne {u : Int32} {off : Int} {tgt : Nat} (X : Fix x G cc nL own rt rm) (hd : decode cc pc = .ok (.ifCond .ne off, 3)) (ht : (pc : Int) + off = (tgt : Int)) (kt : ¬ u = 0 → J x G a b Q ws tgt L st) (kf : u = 0 → J x G a b Q ws (pc + 3) L st) : J x G a b Q ws pc L (.int u :: st) := by
  obtain ⟨p, l, e, R, s, m, args, below, meth, c, A⟩ := x
  intro H locs ls hP hD hS hl
  exact lv_if_ne X.1.1 X.1.2.1 hd ht (fun h => kt h H locs ls hP hD hS hl) (fun h => kf h H locs ls hP hD hS hl)
theorem j_icmp_ne {u v : Int32} {off : Int} {tgt : Nat} (X : Fix x G cc nL own rt rm) (hd : decode cc pc = .ok (.if_icmp .ne off, 3)) (ht : (pc : Int) + off = (tgt : Int)) (kt : ¬ u = v → J x G a b Q ws tgt L st) (kf : u = v → J x G a b Q ws (pc + 3) L st) : J x G a b Q ws pc L (.int v :: .int u :: st) := by
  obtain ⟨p, l, e, R, s, m, args, below, meth, c, A⟩ := x
  intro H locs ls hP hD hS hl
  exact lv_icmp_ne X.1.1 X.1.2.1 hd ht (fun h => kt h H locs ls hP hD hS hl) (fun h => kf h H locs ls hP hD hS hl)
theorem j_if_lt {u : Int32} {off : Int} {tgt : Nat} (X : Fix x G cc nL own rt rm) (hd : decode cc pc = .ok (.ifCond .lt off, 3)) (ht : (pc : Int) + off = (tgt : Int)) (kt : u < 0 → J x G a b Q ws tgt L st) (kf : ¬ u < 0 → J x G a b Q ws (pc + 3) L st) : J x G a b Q ws pc L (.int u :: st) := by
  obtain ⟨p, l, e, R, s, m, args, below, meth, c, A⟩ := x
  intro H locs ls hP hD hS hl
  exact lv_if_lt X.1.1 X.1.2.1 hd ht (fun h => kt h H locs ls hP hD hS hl) (fun h => kf h H locs ls hP hD hS hl)
theorem j_icmp_lt {u v : Int32} {off : Int} {tgt : Nat} (X : Fix x G cc nL own rt rm) (hd : decode cc pc = .ok (.if_icmp .lt off, 3)) (ht : (pc : Int) + off = (tgt : Int)) (kt : u < v → J x G a b Q ws tgt L st) (kf : ¬ u < v → J x G a b Q ws (pc + 3) L st) : J x G a b Q ws pc L (.int v :: .int u :: st) := by
  obtain ⟨p, l, e, R, s, m, args, below, meth, c, A⟩ := x
  intro H locs ls hP hD hS hl
  exact lv_icmp_lt X.1.1 X.1.2.1 hd ht (fun h => kt h H locs ls hP hD hS hl) (fun h => kf h H locs ls hP hD hS hl)
theorem j_if_ge {u : Int32} {off : Int} {tgt : Nat} (X : Fix x G cc nL own rt rm) (hd : decode cc pc = .ok (.ifCond .ge off, 3)) (ht : (pc : Int) + off = (tgt : Int)) (kt : 0 ≤ u → J x G a b Q ws tgt L st) (kf : ¬ 0 ≤ u → J x G a b Q ws (pc + 3) L st) : J x G a b Q ws pc L (.int u :: st) := by
  obtain ⟨p, l, e, R, s, m, args, below, meth, c, A⟩ := x
  intro H locs ls hP hD hS hl
  exact lv_if_ge X.1.1 X.1.2.1 hd ht (fun h => kt h H locs ls hP hD hS hl) (fun h => kf h H locs ls hP hD hS hl)
theorem j_icmp_ge {u v : Int32} {off : Int} {tgt : Nat} (X : Fix x G cc nL own rt rm) (hd : decode cc pc = .ok (.if_icmp .ge off, 3)) (ht : (pc : Int) + off = (tgt : Int)) (kt : v ≤ u → J x G a b Q ws tgt L st) (kf : ¬ v ≤ u → J x G a b Q ws (pc + 3) L st) : J x G a b Q ws pc L (.int v :: .int u :: st) := by
  obtain ⟨p, l, e, R, s, m, args, below, meth, c, A⟩ := x
  intro H locs ls hP hD hS hl
  exact lv_icmp_ge X.1.1 X.1.2.1 hd ht (fun h => kt h H locs ls hP hD hS hl) (fun h => kf h H locs ls hP hD hS hl)
theorem j_if_gt {u : Int32} {off : Int} {tgt : Nat} (X : Fix x G cc nL own rt rm) (hd : decode cc pc = .ok (.ifCond .gt off, 3)) (ht : (pc : Int) + off = (tgt : Int)) (kt : 0 < u → J x G a b Q ws tgt L st) (kf : ¬ 0 < u → J x G a b Q ws (pc + 3) L st) : J x G a b Q ws pc L (.int u :: st) := by
  obtain ⟨p, l, e, R, s, m, args, below, meth, c, A⟩ := x
  intro H locs ls hP hD hS hl
  exact lv_if_gt X.1.1 X.1.2.1 hd ht (fun h => kt h H locs ls hP hD hS hl) (fun h => kf h H locs ls hP hD hS hl)
theorem j_icmp_gt {u v : Int32} {off : Int} {tgt : Nat} (X : Fix x G cc nL own rt rm) (hd : decode cc pc = .ok (.if_icmp .gt off, 3)) (ht : (pc : Int) + off = (tgt : Int)) (kt : v < u → J x G a b Q ws tgt L st) (kf : ¬ v < u → J x G a b Q ws (pc + 3) L st) : J x G a b Q ws pc L (.int v :: .int u :: st) := by
  obtain ⟨p, l, e, R, s, m, args, below, meth, c, A⟩ := x
  intro H locs ls hP hD hS hl
  exact lv_icmp_gt X.1.1 X.1.2.1 hd ht (fun h => kt h H locs ls hP hD hS hl) (fun h => kf h H locs ls hP hD hS hl)
theorem j_if_le {u : Int32} {off : Int} {tgt : Nat} (X : Fix x G cc nL own rt rm) (hd : decode cc pc = .ok (.ifCond .le off, 3)) (ht : (pc : Int) + off = (tgt : Int)) (kt : u ≤ 0 → J x G a b Q ws tgt L st) (kf : ¬ u ≤ 0 → J x G a b Q ws (pc + 3) L st) : J x G a b Q ws pc L (.int u :: st) := by
  obtain ⟨p, l, e, R, s, m, args, below, meth, c, A⟩ := x
  intro H locs ls hP hD hS hl
  exact lv_if_le X.1.1 X.1.2.1 hd ht (fun h => kt h H locs ls hP hD hS hl) (fun h => kf h H locs ls hP hD hS hl)
theorem j_icmp_le {u v : Int32} {off : Int} {tgt : Nat} (X : Fix x G cc nL own rt rm) (hd : decode cc pc = .ok (.if_icmp .le off, 3)) (ht : (pc : Int) + off = (tgt : Int)) (kt : u ≤ v → J x G a b Q ws tgt L st) (kf : ¬ u ≤ v → J x G a b Q ws (pc + 3) L st) : J x G a b Q ws pc L (.int v :: .int u :: st) := by
  obtain ⟨p, l, e, R, s, m, args, below, meth, c, A⟩ := x
  intro H locs ls hP hD hS hl
  exact lv_icmp_le X.1.1 X.1.2.1 hd ht (fun h => kt h H locs ls hP hD hS hl) (fun h => kf h H locs ls hP hD hS hl)
theorem j_tableOut {dflt lo hi : Int} {offs : Array Int} {len : Nat} {v : Int32} {tgt : Nat} (X : Fix x G cc nL own rt rm) (hd : decode cc pc = .ok (.tableswitch dflt lo hi offs, len)) (h : v.toInt < lo ∨ hi < v.toInt) (ht : (pc : Int) + dflt = (tgt : Int)) (kk : J x G a b Q ws tgt L st) : J x G a b Q ws pc L (.int v :: st) := by
  obtain ⟨p, l, e, R, s, m, args, below, meth, c, A⟩ := x
  intro H locs ls hP hD hS hl
  exact lv_tableOut X.1.1 X.1.2.1 hd h ht (kk H locs ls hP hD hS hl)
theorem j_tableIn {dflt lo hi : Int} {offs : Array Int} {len : Nat} {v : Int32} {off : Int} {tgt : Nat} (X : Fix x G cc nL own rt rm) (hd : decode cc pc = .ok (.tableswitch dflt lo hi offs, len)) (h1 : ¬ v.toInt < lo) (h2 : ¬ hi < v.toInt) (ho : offs[(v.toInt - lo).toNat]? = some off) (ht : (pc : Int) + off = (tgt : Int)) (kk : J x G a b Q ws tgt L st) : J x G a b Q ws pc L (.int v :: st) := by
  obtain ⟨p, l, e, R, s, m, args, below, meth, c, A⟩ := x
  intro H locs ls hP hD hS hl
  exact lv_tableIn X.1.1 X.1.2.1 hd h1 h2 ho ht (kk H locs ls hP hD hS hl)
theorem j_get {C : String} {T : u_T} {N ci index o : Nat} {fs : List Value} {v : Value} (X : Fix x G cc nL own rt rm) (hin : ∀ w ∈ u_ws C T N, w ∈ gtbl) (q0 : Nat) (he : ws[q0]? = some (o, .inr (ci, fs))) (hc : classes[ci]? = some (C, T, N)) (k : Nat) (hk : k < N) (hlink : Cond.fieldLink own index (T k).1 (T k).2.1 (T k).2.2.1 ∈ gtbl) (hv : fs[k]? = some v) (hd : decode cc pc = .ok (.getfield index, 3)) (kk : J x G a b Q ws (pc + 3) L (v :: st)) : J x G a b Q ws pc L (.ref o :: st) := by
  obtain ⟨p, l, e, R, s, m, args, below, meth, c, A⟩ := x
  intro H locs ls hP hD hS hl
  exact va_get X.1.1 X.1.2.1 X.1.2.2.2.2 hin X.1.2.2.2.1 X.2.1.1 hP q0 he hc k hk (X.1.2.2.2.2 _ hlink) (fun _ h => h) hv hd (kk H locs ls hP hD hS hl)
theorem j_getN {C : String} {T : u_T} {N ci index o : Nat} {fs : List Value} {v : Value} {host : String} (X : Fix x G cc nL own rt rm) (hin : ∀ w ∈ u_ws C T N, w ∈ gtbl) (q0 : Nat) (he : ws[q0]? = some (o, .inr (ci, fs))) (hc : classes[ci]? = some (C, T, N)) (k : Nat) (hk : k < N) (hlink : Cond.fieldLinkNest own index (T k).1 (T k).2.1 (T k).2.2.1 host ∈ nestW) (hv : fs[k]? = some v) (hd : decode cc pc = .ok (.getfield index, 3)) (kk : J x G a b Q ws (pc + 3) L (v :: st)) : J x G a b Q ws pc L (.ref o :: st) := by
  obtain ⟨p, l, e, R, s, m, args, below, meth, c, A⟩ := x
  intro H locs ls hP hD hS hl
  exact va_getN X.1.1 X.1.2.1 X.1.2.2.2.2 hin X.1.2.2.2.1 X.2.1.1 hP q0 he hc k hk (va_Nw.use rfl (X.2.1.2.1 _ hlink)) (fun _ h => h) hv hd (kk H locs ls hP hD hS hl)
theorem j_put {C : String} {T : u_T} {N ci index o : Nat} {fs : List Value} {v : Value} {ty : FieldType} (X : Fix x G cc nL own rt rm) (hin : ∀ w ∈ u_ws C T N, w ∈ gtbl) (ty0 : Nat → FieldType) (hty : ∀ k, k < N → parseFieldDescriptor (T k).2.2.1 = some (ty0 k)) (hnm : ∀ a, a < N → ∀ b, b < N → a ≠ b → (T a).2.1 ≠ (T b).2.1) (q0 : Nat) (he : ws[q0]? = some (o, .inr (ci, fs))) (hc : classes[ci]? = some (C, T, N)) (k : Nat) (hk : k < N) (hlink : Cond.fieldLink own index (T k).1 (T k).2.1 (T k).2.2.1 ∈ gtbl) (hfin : (T k).2.2.2 = false)  (htk : ty0 k = ty) (hn : narrow ty v = v) (hfit : fits ty v = true) (hl0 : k < fs.length) (hd : decode cc pc = .ok (.putfield index, 3)) (kk : J x G a b Q (ws.set q0 (o, .inr (ci, fs.set k v))) (pc + 3) L st) : J x G a b Q ws pc L (v :: .ref o :: st) := by
  obtain ⟨p, l, e, R, s, m, args, below, meth, c, A⟩ := x
  intro H locs ls hP hD hS hl
  exact va_put X.1.1 X.1.2.1 X.1.2.2.2.2 hin ty0 hty hnm X.1.2.2.2.1 X.2.1.1 hP hD hS q0 he hc k hk (X.1.2.2.2.2 _ hlink) (fun _ h => h) hfin  (by rw [hty k hk, htk]) hn hfit hl0 hd (fun H1 locs1 hP1 hD1 hS1 => kk H1 locs1 ls hP1 hD1 hS1 hl)
theorem j_putN {C : String} {T : u_T} {N ci index o : Nat} {fs : List Value} {v : Value} {ty : FieldType} {host : String} (X : Fix x G cc nL own rt rm) (hin : ∀ w ∈ u_ws C T N, w ∈ gtbl) (ty0 : Nat → FieldType) (hty : ∀ k, k < N → parseFieldDescriptor (T k).2.2.1 = some (ty0 k)) (hnm : ∀ a, a < N → ∀ b, b < N → a ≠ b → (T a).2.1 ≠ (T b).2.1) (q0 : Nat) (he : ws[q0]? = some (o, .inr (ci, fs))) (hc : classes[ci]? = some (C, T, N)) (k : Nat) (hk : k < N) (hlink : Cond.fieldLinkNest own index (T k).1 (T k).2.1 (T k).2.2.1 host ∈ nestW) (hfin : (T k).2.2.2 = false)  (htk : ty0 k = ty) (hn : narrow ty v = v) (hfit : fits ty v = true) (hl0 : k < fs.length) (hd : decode cc pc = .ok (.putfield index, 3)) (kk : J x G a b Q (ws.set q0 (o, .inr (ci, fs.set k v))) (pc + 3) L st) : J x G a b Q ws pc L (v :: .ref o :: st) := by
  obtain ⟨p, l, e, R, s, m, args, below, meth, c, A⟩ := x
  intro H locs ls hP hD hS hl
  exact va_putN X.1.1 X.1.2.1 X.1.2.2.2.2 hin ty0 hty hnm X.1.2.2.2.1 X.2.1.1 hP hD hS q0 he hc k hk (va_Nw.use rfl (X.2.1.2.1 _ hlink)) (fun _ h => h) hfin  (by rw [hty k hk, htk]) hn hfit hl0 hd (fun H1 locs1 hP1 hD1 hS1 => kk H1 locs1 ls hP1 hD1 hS1 hl)
theorem j_putF {C : String} {T : u_T} {N ci index o : Nat} {fs : List Value} {v : Value} {ty : FieldType} (X : Fix x G cc nL own rt rm) (hin : ∀ w ∈ u_ws C T N, w ∈ gtbl) (ty0 : Nat → FieldType) (hty : ∀ k, k < N → parseFieldDescriptor (T k).2.2.1 = some (ty0 k)) (hnm : ∀ a, a < N → ∀ b, b < N → a ≠ b → (T a).2.1 ≠ (T b).2.1) (q0 : Nat) (he : ws[q0]? = some (o, .inr (ci, fs))) (hc : classes[ci]? = some (C, T, N)) (k : Nat) (hk : k < N) (hlink : Cond.fieldLink own index (T k).1 (T k).2.1 (T k).2.2.1 ∈ gtbl) (hfin : (T k).2.2.2 = true) (hnm1 : Named x "<init>") (hdecl : (T k).1 = own) (htk : ty0 k = ty) (hn : narrow ty v = v) (hfit : fits ty v = true) (hl0 : k < fs.length) (hd : decode cc pc = .ok (.putfield index, 3)) (kk : J x G a b Q (ws.set q0 (o, .inr (ci, fs.set k v))) (pc + 3) L st) : J x G a b Q ws pc L (v :: .ref o :: st) := by
  obtain ⟨p, l, e, R, s, m, args, below, meth, c, A⟩ := x
  intro H locs ls hP hD hS hl
  exact va_putF X.1.1 X.1.2.1 X.1.2.2.2.2 hin ty0 hty hnm X.1.2.2.2.1 X.2.1.1 hP hD hS q0 he hc k hk (X.1.2.2.2.2 _ hlink) (fun _ h => h) hfin hnm1 hdecl (by rw [hty k hk, htk]) hn hfit hl0 hd (fun H1 locs1 hP1 hD1 hS1 => kk H1 locs1 ls hP1 hD1 hS1 hl)
theorem j_iald {o n : Nat} {f : Nat → Int32} {i : Int32} (X : Fix x G cc nL own rt rm) (q0 : Nat) (he : ws[q0]? = some (o, .inl (G.2 0, n, .inl f))) (hi : vp_in i n) (hd : decode cc pc = .ok (.iaload, 1)) (kk : J x G a b Q ws (pc + 1) L (.int (f i.toNatClampNeg) :: st)) : J x G a b Q ws pc L (.int i :: .ref o :: st) := by
  obtain ⟨p, l, e, R, s, m, args, below, meth, c, A⟩ := x
  intro H locs ls hP hD hS hl
  exact va_iald X.1.1 X.1.2.1 X.2.1.1 hP q0 0 he rfl hi hd (kk H locs ls hP hD hS hl)
theorem j_zald {o n : Nat} {f : Nat → Int32} {i : Int32} (X : Fix x G cc nL own rt rm) (q0 : Nat) (he : ws[q0]? = some (o, .inl (G.2 1, n, .inl f))) (hi : vp_in i n) (hd : decode cc pc = .ok (.baload, 1)) (kk : J x G a b Q ws (pc + 1) L (.int (f i.toNatClampNeg) :: st)) : J x G a b Q ws pc L (.int i :: .ref o :: st) := by
  obtain ⟨p, l, e, R, s, m, args, below, meth, c, A⟩ := x
  intro H locs ls hP hD hS hl
  exact va_zald X.1.1 X.1.2.1 X.2.1.1 hP q0 1 he rfl hi hd (kk H locs ls hP hD hS hl)
theorem j_aaldT {o n : Nat} {f : Nat → Option Nat} {i : Int32} {q : Nat} (X : Fix x G cc nL own rt rm) (q0 : Nat) (he : ws[q0]? = some (o, .inl (G.2 2, n, .inr (.inr (.inr (.inr f)))))) (hi : vp_in i n) (hq : f i.toNatClampNeg = some q) (hd : decode cc pc = .ok (.aaload, 1)) (kk : J x G a b Q ws (pc + 1) L (.ref q :: st)) : J x G a b Q ws pc L (.int i :: .ref o :: st) := by
  obtain ⟨p, l, e, R, s, m, args, below, meth, c, A⟩ := x
  intro H locs ls hP hD hS hl
  exact va_aldq X.1.1 X.1.2.1 X.2.1.1 hP q0 2 he rfl hi hd (by rw [hq]; exact (kk H locs ls hP hD hS hl))
theorem j_aaldG {o n : Nat} {f : Nat → Option Nat} {i : Int32} {q : Nat} (X : Fix x G cc nL own rt rm) (q0 : Nat) (he : ws[q0]? = some (o, .inl (G.2 3, n, .inr (.inr (.inr (.inr f)))))) (hi : vp_in i n) (hq : f i.toNatClampNeg = some q) (hd : decode cc pc = .ok (.aaload, 1)) (kk : J x G a b Q ws (pc + 1) L (.ref q :: st)) : J x G a b Q ws pc L (.int i :: .ref o :: st) := by
  obtain ⟨p, l, e, R, s, m, args, below, meth, c, A⟩ := x
  intro H locs ls hP hD hS hl
  exact va_aldq X.1.1 X.1.2.1 X.2.1.1 hP q0 3 he rfl hi hd (by rw [hq]; exact (kk H locs ls hP hD hS hl))
theorem j_iast {o n : Nat} {f : Nat → Int32} {i w : Int32} (X : Fix x G cc nL own rt rm) (q0 : Nat) (he : ws[q0]? = some (o, .inl (G.2 0, n, .inl f))) (hi : vp_in i n) (hd : decode cc pc = .ok (.iastore, 1)) (kk : J x G a b Q (ws.set q0 (o, .inl (G.2 0, n, .inl (upd f i.toNatClampNeg w)))) (pc + 1) L st) : J x G a b Q ws pc L (.int w :: .int i :: .ref o :: st) := by
  obtain ⟨p, l, e, R, s, m, args, below, meth, c, A⟩ := x
  intro H locs ls hP hD hS hl
  exact va_iast X.1.1 X.1.2.1 X.2.1.1 hP hD hS q0 0 he rfl hi hd (fun H1 locs1 hP1 hD1 hS1 => kk H1 locs1 ls hP1 hD1 hS1 hl)
theorem j_zast {o n : Nat} {f : Nat → Int32} {i w : Int32} (X : Fix x G cc nL own rt rm) (q0 : Nat) (he : ws[q0]? = some (o, .inl (G.2 1, n, .inl f))) (hi : vp_in i n) (hd : decode cc pc = .ok (.bastore, 1)) (kk : J x G a b Q (ws.set q0 (o, .inl (G.2 1, n, .inl (upd f i.toNatClampNeg (vp_nar .boolean w))))) (pc + 1) L st) : J x G a b Q ws pc L (.int w :: .int i :: .ref o :: st) := by
  obtain ⟨p, l, e, R, s, m, args, below, meth, c, A⟩ := x
  intro H locs ls hP hD hS hl
  exact va_zast X.1.1 X.1.2.1 X.2.1.1 hP hD hS q0 1 he rfl hi hd (fun H1 locs1 hP1 hD1 hS1 => kk H1 locs1 ls hP1 hD1 hS1 hl)
theorem j_aastT {o n q : Nat} {f : Nat → Option Nat} {i : Int32} {vs : List Value} (X : Fix x G cc nL own rt rm) (q0 qk : Nat) (he : ws[q0]? = some (o, .inl (G.2 2, n, .inr (.inr (.inr (.inr f)))))) (hv : ws[qk]? = some (q, .inr (0, vs))) (hi : vp_in i n) (hd : decode cc pc = .ok (.aastore, 1)) (kk : J x G a b Q (ws.set q0 (o, .inl (G.2 2, n, .inr (.inr (.inr (.inr (va_up f i.toNatClampNeg (some q)))))))) (pc + 1) L st) : J x G a b Q ws pc L (.ref q :: .int i :: .ref o :: st) := by
  obtain ⟨p, l, e, R, s, m, args, below, meth, c, A⟩ := x
  intro H locs ls hP hD hS hl
  exact va_astq X.1.1 X.1.2.1 X.2.1.1 hP hD hS q0 2 qk 0 (r := classes[0]) he rfl hv rfl hi hd (fun H1 locs1 hP1 hD1 hS1 => kk H1 locs1 ls hP1 hD1 hS1 hl)
theorem j_aastG {o n q : Nat} {f : Nat → Option Nat} {i : Int32} {vs : List Value} (X : Fix x G cc nL own rt rm) (q0 qk : Nat) (he : ws[q0]? = some (o, .inl (G.2 3, n, .inr (.inr (.inr (.inr f)))))) (hv : ws[qk]? = some (q, .inr (1, vs))) (hi : vp_in i n) (hd : decode cc pc = .ok (.aastore, 1)) (kk : J x G a b Q (ws.set q0 (o, .inl (G.2 3, n, .inr (.inr (.inr (.inr (va_up f i.toNatClampNeg (some q)))))))) (pc + 1) L st) : J x G a b Q ws pc L (.ref q :: .int i :: .ref o :: st) := by
  obtain ⟨p, l, e, R, s, m, args, below, meth, c, A⟩ := x
  intro H locs ls hP hD hS hl
  exact va_astq X.1.1 X.1.2.1 X.2.1.1 hP hD hS q0 3 qk 1 (r := classes[1]) he rfl hv rfl hi hd (fun H1 locs1 hP1 hD1 hS1 => kk H1 locs1 ls hP1 hD1 hS1 hl)
theorem j_alen {o : Nat} {y : vp_A} {v : Int32} {cA : ClassId} {ty : FieldType} (X : Fix x G cc nL own rt rm) (q0 t0 : Nat) (he : ws[q0]? = some (o, .inl (cA, y))) (ht : (tysG G)[t0]? = some (cA, ty)) (hv : Int32.ofNat y.1 = v) (hd : decode cc pc = .ok (.arraylength, 1)) (kk : J x G a b Q ws (pc + 1) L (.int v :: st)) : J x G a b Q ws pc L (.ref o :: st) := by
  obtain ⟨p, l, e, R, s, m, args, below, meth, c, A⟩ := x
  intro H locs ls hP hD hS hl
  exact va_alen X.1.1 X.1.2.1 X.2.1.1 hP q0 t0 he ht hv hd (kk H locs ls hP hD hS hl)
theorem j_ialdN {o n j : Nat} {f : Nat → Int32} (X : Fix x G cc nL own rt rm) (q0 : Nat) (he : ws[q0]? = some (o, .inl (G.2 0, n, .inl f))) (hj : j < n) (hn : n < 2 ^ 31) (hd : decode cc pc = .ok (.iaload, 1)) (kk : J x G a b Q ws (pc + 1) L (.int (f j) :: st)) : J x G a b Q ws pc L (.int (nI j) :: .ref o :: st) := j_iald X q0 he (vp_in_nI hj hn) hd (by rw [nI_clamp (by omega)]; exact kk)
theorem j_zaldN {o n j : Nat} {f : Nat → Int32} (X : Fix x G cc nL own rt rm) (q0 : Nat) (he : ws[q0]? = some (o, .inl (G.2 1, n, .inl f))) (hj : j < n) (hn : n < 2 ^ 31) (hd : decode cc pc = .ok (.baload, 1)) (kk : J x G a b Q ws (pc + 1) L (.int (f j) :: st)) : J x G a b Q ws pc L (.int (nI j) :: .ref o :: st) := j_zald X q0 he (vp_in_nI hj hn) hd (by rw [nI_clamp (by omega)]; exact kk)
theorem j_iastN {o n j : Nat} {f : Nat → Int32} {w : Int32} (X : Fix x G cc nL own rt rm) (q0 : Nat) (he : ws[q0]? = some (o, .inl (G.2 0, n, .inl f))) (hj : j < n) (hn : n < 2 ^ 31) (hd : decode cc pc = .ok (.iastore, 1)) (kk : J x G a b Q (ws.set q0 (o, .inl (G.2 0, n, .inl (upd f j w)))) (pc + 1) L st) : J x G a b Q ws pc L (.int w :: .int (nI j) :: .ref o :: st) := j_iast X q0 he (vp_in_nI hj hn) hd (by rw [nI_clamp (by omega)]; exact kk)
def Bz (v : Int32) : Prop := v = 0 ∨ v = 1
theorem nz {v : Int32} (h : Bz v) : narrow .boolean (.int v) = .int v := by rcases h with rfl | rfl <;> rfl
theorem fz {v : Int32} (h : Bz v) : fits .boolean (.int v) = true := by rcases h with rfl | rfl <;> rfl
theorem vz {v : Int32} (h : Bz v) : vp_nar .boolean v = v := by rcases h with rfl | rfl <;> rfl
theorem j_zastN {o n j : Nat} {f : Nat → Int32} {w : Int32} (X : Fix x G cc nL own rt rm) (q0 : Nat) (he : ws[q0]? = some (o, .inl (G.2 1, n, .inl f))) (hj : j < n) (hn : n < 2 ^ 31) (hz : Bz w) (hd : decode cc pc = .ok (.bastore, 1)) (kk : J x G a b Q (ws.set q0 (o, .inl (G.2 1, n, .inl (upd f j w)))) (pc + 1) L st) : J x G a b Q ws pc L (.int w :: .int (nI j) :: .ref o :: st) := j_zast X q0 he (vp_in_nI hj hn) hd (by rw [nI_clamp (by omega), vz hz]; exact kk)
theorem j_aaldTN {o n j q : Nat} {f : Nat → Option Nat} (X : Fix x G cc nL own rt rm) (q0 : Nat) (he : ws[q0]? = some (o, .inl (G.2 2, n, .inr (.inr (.inr (.inr f)))))) (hj : j < n) (hn : n < 2 ^ 31) (hq : f j = some q) (hd : decode cc pc = .ok (.aaload, 1)) (kk : J x G a b Q ws (pc + 1) L (.ref q :: st)) : J x G a b Q ws pc L (.int (nI j) :: .ref o :: st) := j_aaldT X q0 he (vp_in_nI hj hn) (by rw [nI_clamp (by omega)]; exact hq) hd kk
theorem j_aaldGN {o n j q : Nat} {f : Nat → Option Nat} (X : Fix x G cc nL own rt rm) (q0 : Nat) (he : ws[q0]? = some (o, .inl (G.2 3, n, .inr (.inr (.inr (.inr f)))))) (hj : j < n) (hn : n < 2 ^ 31) (hq : f j = some q) (hd : decode cc pc = .ok (.aaload, 1)) (kk : J x G a b Q ws (pc + 1) L (.ref q :: st)) : J x G a b Q ws pc L (.int (nI j) :: .ref o :: st) := j_aaldG X q0 he (vp_in_nI hj hn) (by rw [nI_clamp (by omega)]; exact hq) hd kk
theorem inc1 (t : Nat) : nI t + Int32.ofInt 1 = nI (t + 1) := nI_1 t
theorem ra_eq {s : State} {cA cB : ClassId} {ty : FieldType} (h1 : va_RA s cA ty) (h2 : va_RA s cB ty) : cA = cB := by
  cases ty with
  | object C =>
    obtain ⟨k1, c1, -, -, -, e1⟩ := h1
    obtain ⟨k2, c2, -, -, -, e2⟩ := h2
    exact Option.some.inj (e1.symm.trans e2)
  | _ =>
    have e1 : s.vm.findClass _ = some cA := h1
    have e2 : s.vm.findClass _ = some cB := h2
    exact Option.some.inj (e1.symm.trans e2)
theorem j_newi {n : Int32} {N : Nat} (X : Fix x G cc nL own rt rm) (hn : ¬ n < 0) (hN : n.toNatClampNeg = N) (hB : N * 4 ≤ 536870912) (hcells : a + 1 ≤ rm.cells) (hslots : b + N ≤ rm.slots) (hd : decode cc pc = .ok (.newarray .int, 2)) (kk : ∀ q : Nat, J x G (a + 1) (b + N) Q (ws ++ [(q, .inl (G.2 0, N, .inl (fun _ => 0)))]) (pc + 2) L (.ref q :: st)) : J x G a b Q ws pc L (.int n :: st) := by
  obtain ⟨p, l, e, R, s, m, args, below, meth, c, A⟩ := x
  intro H locs ls hP hD hS hl
  obtain ⟨X1, X2, X3, X4, X5, rfl⟩ := X
  refine va_newa (atype := .int) (a0 := (N, .inl (fun _ => 0))) X1.1 X1.2.1 (X1.2.2.2.2 _ acl_int) (ty := .int) rfl X2.1 hP hD hS X3 (fun cA => rfl) hn hN hB hcells hslots hd (fun q cA H1 hK1 hP1 hD1 hS1 => ?_)
  have e1 : cA = G.2 0 := ra_eq (hK1.2 4 _ rfl).2 (X2.1.2 0 _ rfl).2
  subst e1
  exact kk q H1 locs ls hP1 hD1 hS1 hl
theorem j_newz {n : Int32} {N : Nat} (X : Fix x G cc nL own rt rm) (hn : ¬ n < 0) (hN : n.toNatClampNeg = N) (hB : N * 1 ≤ 536870912) (hcells : a + 1 ≤ rm.cells) (hslots : b + N ≤ rm.slots) (hd : decode cc pc = .ok (.newarray .boolean, 2)) (kk : ∀ q : Nat, J x G (a + 1) (b + N) Q (ws ++ [(q, .inl (G.2 1, N, .inl (fun _ => 0)))]) (pc + 2) L (.ref q :: st)) : J x G a b Q ws pc L (.int n :: st) := by
  obtain ⟨p, l, e, R, s, m, args, below, meth, c, A⟩ := x
  intro H locs ls hP hD hS hl
  obtain ⟨X1, X2, X3, X4, X5, rfl⟩ := X
  refine va_newa (atype := .boolean) (a0 := (N, .inl (fun _ => 0))) X1.1 X1.2.1 (X1.2.2.2.2 _ acl_boolean) (ty := .boolean) rfl X2.1 hP hD hS X3 (fun cA => rfl) hn hN hB hcells hslots hd (fun q cA H1 hK1 hP1 hD1 hS1 => ?_)
  have e1 : cA = G.2 1 := ra_eq (hK1.2 4 _ rfl).2 (X2.1.2 1 _ rfl).2
  subst e1
  exact kk q H1 locs ls hP1 hD1 hS1 hl
theorem j_newT {n : Int32} {N index : Nat} (X : Fix x G cc nL own rt rm) (hcl : Cond.classLink own index "TimerGates$Timer" ∈ gtbl) (hn : ¬ n < 0) (hN : n.toNatClampNeg = N) (hB : N * 4 ≤ 536870912) (hcells : a + 1 ≤ rm.cells) (hslots : b + N ≤ rm.slots) (hd : decode cc pc = .ok (.anewarray index, 3)) (kk : ∀ q : Nat, J x G (a + 1) (b + N) Q (ws ++ [(q, .inl (G.2 2, N, .inr (.inr (.inr (.inr (fun _ => none))))))]) (pc + 3) L (.ref q :: st)) : J x G a b Q ws pc L (.int n :: st) := by
  obtain ⟨p, l, e, R, s, m, args, below, meth, c, A⟩ := x
  intro H locs ls hP hD hS hl
  obtain ⟨X1, X2, X3, X4, X5, rfl⟩ := X
  refine va_newq X1.1 X1.2.1 X1.2.2.2.1 (X1.2.2.2.2 _ hcl) X2.2.2.1 X2.1 hP hD hS X3 hn hN hB hcells hslots hd (fun q cA H1 hK1 hP1 hD1 hS1 => ?_)
  have e1 : cA = G.2 2 := ra_eq (hK1.2 4 _ rfl).2 (X2.1.2 2 _ rfl).2
  subst e1
  exact kk q H1 locs ls hP1 hD1 hS1 hl
theorem j_newG {n : Int32} {N index : Nat} (X : Fix x G cc nL own rt rm) (hcl : Cond.classLink own index "TimerGates$Gate" ∈ gtbl) (hn : ¬ n < 0) (hN : n.toNatClampNeg = N) (hB : N * 4 ≤ 536870912) (hcells : a + 1 ≤ rm.cells) (hslots : b + N ≤ rm.slots) (hd : decode cc pc = .ok (.anewarray index, 3)) (kk : ∀ q : Nat, J x G (a + 1) (b + N) Q (ws ++ [(q, .inl (G.2 3, N, .inr (.inr (.inr (.inr (fun _ => none))))))]) (pc + 3) L (.ref q :: st)) : J x G a b Q ws pc L (.int n :: st) := by
  obtain ⟨p, l, e, R, s, m, args, below, meth, c, A⟩ := x
  intro H locs ls hP hD hS hl
  obtain ⟨X1, X2, X3, X4, X5, rfl⟩ := X
  refine va_newq X1.1 X1.2.1 X1.2.2.2.1 (X1.2.2.2.2 _ hcl) X2.2.2.2 X2.1 hP hD hS X3 hn hN hB hcells hslots hd (fun q cA H1 hK1 hP1 hD1 hS1 => ?_)
  have e1 : cA = G.2 3 := ra_eq (hK1.2 4 _ rfl).2 (X2.1.2 3 _ rfl).2
  subst e1
  exact kk q H1 locs ls hP1 hD1 hS1 hl
theorem j_new {C : String} {T : u_T} {N ci index : Nat} {fs : List Value} (X : Fix x G cc nL own rt rm) (hin : ∀ w ∈ u_ws C T N, w ∈ gtbl) (ty : Nat → FieldType) (hty : ∀ k, k < N → parseFieldDescriptor (T k).2.2.1 = some (ty k)) (hcl : Cond.classLink own index C ∈ gtbl) (hinst : Cond.instantiable C N ∈ gtbl) (hini : Cond.initialized C ∈ gtbl) (hc : classes[ci]? = some (C, T, N)) (hfs : ∀ j, j < N → defaultValue (ty j) = vp_V fs j) (hcells : a + 1 ≤ rm.cells) (hslots : b + N ≤ rm.slots) (hd : decode cc pc = .ok (.new index, 3)) (kk : ∀ q : Nat, J x G (a + 1) (b + N) Q (ws ++ [(q, .inr (ci, fs))]) (pc + 3) L (.ref q :: st)) : J x G a b Q ws pc L st := by
  obtain ⟨p, l, e, R, s, m, args, below, meth, c, A⟩ := x
  intro H locs ls hP hD hS hl
  obtain ⟨X1, X2, X3, X4, X5, rfl⟩ := X
  exact va_new X1.1 X1.2.1 X1.2.2.2.2 hin ty hty X1.2.2.2.1 (X1.2.2.2.2 _ hcl) (X1.2.2.2.2 _ hinst) (X1.2.2.2.2 _ hini) X2.1 hP hD hS X3 hc hfs hcells hslots hd (fun q H1 hP1 hD1 hS1 => kk q H1 locs ls hP1 hD1 hS1 hl)
theorem j_objInit {o idx : Nat} (X : Fix x G cc nL own rt rm) (hlink : Cond.methodLink own idx objectInit ∈ gtbl) (hd : decode cc pc = .ok (.invokespecial idx, 3)) (hfr : 1 ≤ rm.frames) (hlo : (st.map fun v => v.category).sum + 12 ≤ rm.locals) (hnL : L.length = nL) (kk : J x G a b Q ws (pc + 3) L st) : J x G a b Q ws pc L (.ref o :: st) := by
  obtain ⟨p, l, e, R, s, m, args, below, meth, c, A⟩ := x
  intro H locs ls hP hD hS hl
  obtain ⟨X1, X2, X3, X4, X5, rfl⟩ := X
  exact W.objInit X1.1 X1.2.1 X1.2.2.2.1 (X1.2.2.2.2 _ hlink) (X1.2.2.2.2 _ im_Obj_init) (X1.2.2.2.2 _ cd_Obj_init) rfl (by rw [X1.2.2.1, ← hnL]; exact hl.1) rfl hd hfr (by show 2 * 0 + _ + 12 ≤ _; omega) (kk H locs ls hP hD hS hl)
theorem j_mmin {u v : Int32} {index : Nat} (X : Fix x G cc nL own rt rm) (hlink : Cond.methodLink own index y_Mth_min ∈ gtbl) (hd : decode cc pc = .ok (.invokestatic index, 3)) (hfr : 1 ≤ rm.frames) (hlo : (st.map fun v => v.category).sum + 13 ≤ rm.locals) (hc : a ≤ rm.cells) (hs : b ≤ rm.slots) (hnL : L.length = nL) (kk : J x G a b Q ws (pc + 3) L (.int (if v < u then v else u) :: st)) : J x G a b Q ws pc L (.int v :: .int u :: st) := by
  obtain ⟨p, l, e, R, s, m, args, below, meth, c, A⟩ := x
  intro H locs ls hP hD hS hl
  obtain ⟨X1, X2, X3, X4, X5, rfl⟩ := X
  exact va_mmin X1.1 X1.2.1 (by rw [X1.2.2.1, ← hnL]; exact hl.1.symm) X1.2.2.2.1 (X1.2.2.2.2 _ hlink) (X1.2.2.2.2 _ sta_Mth_min) (X1.2.2.2.2 _ ini_Mth) (X1.2.2.2.2 _ cd_Mth_min) hfr hlo hc hs hd (kk H locs ls hP hD hS hl)
end JR
/-! ===== contracts ===== -/
def PreW (G : Gid) (ws : va_W) (sz : Nat) (U : State) : Prop := U.heap.size = sz ∧ va_P G.1 classes ws U.heap ∧ KG G U ∧ va_D (fun _ => True) ws
def atW (G : Gid) (A : Nat → Prop) (ws : va_W) (t : State) : Prop := va_P G.1 classes ws t.heap ∧ va_D A ws
def wd (y : MethodName) (bt : ByteArray) (n : Nat) (rt : Option FieldType) : List Cond := Cond.code y bt n rt :: gtbl
def CtI (l : Launch) (y : MethodName) (bt : ByteArray) (n : Nat) (rt : Option FieldType) (rm : Room) (G : Gid) (av : List Value) (ws : va_W) (mc ms : Nat) (post : Int32 → va_W → Prop) : Prop :=
  ∀ sz : Nat, Met l y (wd y bt n rt) rm (va_Pc av (PreW G ws sz)) (va_Qi post (atW G (va_A ws sz)) (va_A ws sz)) mc ms (va_A ws sz)
def CtV (l : Launch) (y : MethodName) (bt : ByteArray) (n : Nat) (rm : Room) (G : Gid) (av : List Value) (ws : va_W) (mc ms : Nat) (post : va_W → Prop) : Prop :=
  ∀ sz : Nat, Met l y (wd y bt n none) rm (va_Pc av (PreW G ws sz)) (va_Qv post (atW G (va_A ws sz)) (va_A ws sz)) mc ms (va_A ws sz)
def EI (x : Ctx) (G : Gid) (mc ms : Nat) (post : Int32 → va_W → Prop) : State → Prop := match x with
  | (_, _, _, _, s, _, args, below, _, _, A) => MQ below (va_Qi post (atW G A) A) args s mc ms A
def EV (x : Ctx) (G : Gid) (mc ms : Nat) (post : va_W → Prop) : State → Prop := match x with
  | (_, _, _, _, s, _, args, below, _, _, A) => MQ below (va_Qv post (atW G A) A) args s mc ms A
theorem ct_body {y : MethodName} {bt : ByteArray} {n : Nat} {rt : Option FieldType} {own : String} {rm : Room} {G : Gid} {av : List Value} {ws : va_W} {mc ms : Nat} {l : Launch} {Qc : Nat → Array Value → State → Outcome → State → Prop} {L : List (Option Value)} (hy : plainName y.cls = true) (ho : y.cls = own) (hav : av.all (fun v => v.category == 1) = true) (hn : av.length ≤ n) (hL : av.map some ++ List.replicate (n - av.length) none = L)
    (body : ∀ (p : Program) (e : Env) (s : State) (m : MethodId) (args : Array Value) (below : List Frame) (meth : Method) (c : Code), Fix (p, l, e, rm, s, m, args, below, meth, c, va_A ws s.heap.size) G bt n own rt rm → Named (p, l, e, rm, s, m, args, below, meth, c, va_A ws s.heap.size) y.name → J (p, l, e, rm, s, m, args, below, meth, c, va_A ws s.heap.size) G 0 0 (MQ below (Qc s.heap.size) args s mc ms (va_A ws s.heap.size)) ws 0 L []) (sz : Nat) :
    Met l y (wd y bt n rt) rm (va_Pc av (PreW G ws sz)) (Qc sz) mc ms (va_A ws sz) := by
  refine Met.ofW (cc := bt) (maxL := n) (ret := rt) hy rfl ?_
  intro p e s m args below meth c s₁ B hml hv
  obtain ⟨rfl, hsz, hP, hK, hD0⟩ := hv
  subst hsz
  have hts := atoms_spec (ws := wd y bt n rt) B.pre
  have hown : s.vm.findClass y.cls = some m.cls := findClass_of_methodNamed B.named
  rw [ho] at hown
  have hin : meth.name = y.name := (name_of_methodNamed B.named B.method).1
  have hD := hD0.self (sz := s.heap.size)
  rw [lg_entry_eq]
  have hl := lx_entry hav hn
  rw [hL] at hl
  exact body p e s m av.toArray below meth c ⟨⟨B.exec, B.bytes, hml, hown, fun w hw => hts w (List.mem_cons_of_mem _ hw)⟩, hK, fun q h => Or.inr h, B.notSynchronized, B.returns, rfl⟩ hin s.heap [] _ hP hD va_S.rf hl
theorem CtI.of {y : MethodName} {bt : ByteArray} {n : Nat} {rt : Option FieldType} {own : String} {rm : Room} {G : Gid} {av : List Value} {ws : va_W} {mc ms : Nat} {l : Launch} {post : Int32 → va_W → Prop} {L : List (Option Value)} (hy : plainName y.cls = true) (ho : y.cls = own) (hav : av.all (fun v => v.category == 1) = true) (hn : av.length ≤ n) (hL : av.map some ++ List.replicate (n - av.length) none = L)
    (body : ∀ x : Ctx, Fix x G bt n own rt rm → J x G 0 0 (EI x G mc ms post) ws 0 L []) : CtI l y bt n rt rm G av ws mc ms post :=
  ct_body (Qc := fun sz => va_Qi post (atW G (va_A ws sz)) (va_A ws sz)) hy ho hav hn hL (fun p e s m args below meth c X _ => body (p, l, e, rm, s, m, args, below, meth, c, va_A ws s.heap.size) X)
theorem CtV.of {y : MethodName} {bt : ByteArray} {n : Nat} {own : String} {rm : Room} {G : Gid} {av : List Value} {ws : va_W} {mc ms : Nat} {l : Launch} {post : va_W → Prop} {L : List (Option Value)} (hy : plainName y.cls = true) (ho : y.cls = own) (hav : av.all (fun v => v.category == 1) = true) (hn : av.length ≤ n) (hL : av.map some ++ List.replicate (n - av.length) none = L)
    (body : ∀ x : Ctx, Fix x G bt n own none rm → Named x y.name → J x G 0 0 (EV x G mc ms post) ws 0 L []) : CtV l y bt n rm G av ws mc ms post :=
  ct_body (Qc := fun sz => va_Qv post (atW G (va_A ws sz)) (va_A ws sz)) hy ho hav hn hL (fun p e s m args below meth c X hN => body (p, l, e, rm, s, m, args, below, meth, c, va_A ws s.heap.size) X hN)
section JC
variable {x : Ctx} {G : Gid} {a b : Nat} {Q : State → Prop} {ws : va_W} {pc : Nat} {L L' : List (Option Value)} {st rest : List Value} {cc : ByteArray} {nL : Nat} {own : String} {rt : Option FieldType} {rm : Room}
theorem j_iret {r : Int32} {mc ms : Nat} {post : Int32 → va_W → Prop} (X : Fix x G cc nL own (some .int) rm) (hp : post r ws) (hd : decode cc pc = .ok (.ireturn, 1)) : J x G mc ms (EI x G mc ms post) ws pc L [.int r] := by
  obtain ⟨p, l, e, R, s, m, args, below, meth, c, A⟩ := x
  intro H locs ls hP hD hS hl
  exact W.iret X.1.1 X.1.2.1 X.2.2.2.2.1 (fun t ht hW => ⟨⟨r, ws, rfl, hp, by rw [ht]; exact hP, hD⟩, hS.F ht⟩) hS.2.2 hd X.2.2.2.1
theorem j_zret {r : Int32} {mc ms : Nat} {post : Int32 → va_W → Prop} (X : Fix x G cc nL own (some .boolean) rm) (hz : r = 0 ∨ r = 1) (hp : post r ws) (hd : decode cc pc = .ok (.ireturn, 1)) : J x G mc ms (EI x G mc ms post) ws pc L [.int r] := by
  obtain ⟨p, l, e, R, s, m, args, below, meth, c, A⟩ := x
  intro H locs ls hP hD hS hl
  exact W.zret X.1.1 X.1.2.1 X.2.2.2.2.1 (by rcases hz with rfl | rfl <;> rfl) (fun t ht hW => ⟨⟨r, ws, rfl, hp, by rw [ht]; exact hP, hD⟩, hS.F ht⟩) hS.2.2 hd X.2.2.2.1
theorem j_vret {mc ms : Nat} {post : va_W → Prop} (X : Fix x G cc nL own none rm) (hp : post ws) (hd : decode cc pc = .ok (.return_, 1)) : J x G mc ms (EV x G mc ms post) ws pc L [] := by
  obtain ⟨p, l, e, R, s, m, args, below, meth, c, A⟩ := x
  intro H locs ls hP hD hS hl
  exact W.vret X.1.1 X.1.2.1 X.2.2.2.2.1 (fun t ht hW => ⟨⟨ws, rfl, hp, by rw [ht]; exact hP, hD⟩, hS.F ht⟩) hS.2.2 hd X.2.2.2.1
end JC
/-- behind a call: the callee's part of the world is another, the rest is unchanged -/
theorem fr_join {A : Nat → Prop} {D : va_G} {wa wc wb w1 : va_W} {H H1 : Heap} (hP : va_P D classes (wa ++ (wc ++ wb)) H) (hD : va_D A (wa ++ (wc ++ wb))) (hk : ∀ q : Nat, q < H.size → ¬ va_A wc H.size q → H1[q]? = H[q]?) (hF : ∀ q, va_A wc H.size q → A q) (hP1 : va_P D classes w1 H1) (hD1 : va_D (va_A wc H.size) w1) : va_P D classes (wa ++ (w1 ++ wb)) H1 ∧ va_D A (wa ++ (w1 ++ wb)) := by
  have ga : ∀ (k : Nat) (q : Nat × va_E), wa[k]? = some q → (wa ++ (wc ++ wb))[k]? = some q := fun k q h => by rw [List.getElem?_append_left (List.getElem?_eq_some_iff.mp h).1]; exact h
  have gc : ∀ (k : Nat) (q : Nat × va_E), wc[k]? = some q → (wa ++ (wc ++ wb))[wa.length + k]? = some q := fun k q h => by rw [List.getElem?_append_right (by omega), Nat.add_sub_cancel_left, List.getElem?_append_left (List.getElem?_eq_some_iff.mp h).1]; exact h
  have gb : ∀ (k : Nat) (q : Nat × va_E), wb[k]? = some q → (wa ++ (wc ++ wb))[wa.length + (wc.length + k)]? = some q := fun k q h => by rw [List.getElem?_append_right (by omega), Nat.add_sub_cancel_left, List.getElem?_append_right (by omega), Nat.add_sub_cancel_left]; exact h
  have apa : ∀ (k : Nat) (q : Nat × va_E), wa[k]? = some q → q.1 < H.size ∧ ¬ va_A wc H.size q.1 := by
    intro k q h
    have hl := (hP _ q (ga k q h)).lt
    refine ⟨hl, fun z => ?_⟩
    rcases z with ⟨j, e, z⟩ | z
    · have h1 := hD.1 _ _ q (q.1, e) (ga k q h) (gc j _ z) rfl
      have h2 := (List.getElem?_eq_some_iff.mp h).1
      omega
    · omega
  have apb : ∀ (k : Nat) (q : Nat × va_E), wb[k]? = some q → q.1 < H.size ∧ ¬ va_A wc H.size q.1 := by
    intro k q h
    have hl := (hP _ q (gb k q h)).lt
    refine ⟨hl, fun z => ?_⟩
    rcases z with ⟨j, e, z⟩ | z
    · have h1 := hD.1 _ _ q (q.1, e) (gb k q h) (gc j _ z) rfl
      have h2 := (List.getElem?_eq_some_iff.mp z).1
      omega
    · omega
  have Pa : va_P D classes wa H1 := fun k q h => (hP _ q (ga k q h)).kept (hk q.1 (apa k q h).1 (apa k q h).2)
  have Pb : va_P D classes wb H1 := fun k q h => (hP _ q (gb k q h)).kept (hk q.1 (apb k q h).1 (apb k q h).2)
  have Da : va_D A wa := ⟨fun i j u v hi hj he => hD.1 i j u v (ga i u hi) (ga j v hj) he, fun k q h => hD.2 _ q (ga k q h)⟩
  have Db : va_D A wb := ⟨fun i j u v hi hj he => by have h1 := hD.1 _ _ u v (gb i u hi) (gb j v hj) he; omega, fun k q h => hD.2 _ q (gb k q h)⟩
  have Dc : va_D A w1 := hD1.weaken (fun k q _ h => hF q.1 h)
  refine ⟨Pa.app (hP1.app Pb), Da.app (Dc.app Db (fun i j u v hi hj he => ?_)) (fun i j u v hi hj he => ?_)⟩
  · exact (apb j v hj).2 (he ▸ hD1.2 i u hi)
  · rcases List.mem_append.mp (List.mem_of_getElem? hj) with z | z
    · obtain ⟨k, z⟩ := List.getElem?_of_mem z
      exact (apa i u hi).2 (he ▸ hD1.2 k v z)
    · obtain ⟨k, z⟩ := List.getElem?_of_mem z
      have h1 := hD.1 _ _ u v (ga i u hi) (gb k v z) he
      have h2 := (List.getElem?_eq_some_iff.mp hi).1
      omega
theorem fr_sub {A : Nat → Prop} {D : va_G} {wa wc wb : va_W} {H : Heap} (hP : va_P D classes (wa ++ (wc ++ wb)) H) (hD : va_D A (wa ++ (wc ++ wb))) : va_P D classes wc H ∧ va_D A wc := by
  have gc : ∀ (k : Nat) (q : Nat × va_E), wc[k]? = some q → (wa ++ (wc ++ wb))[wa.length + k]? = some q := fun k q h => by rw [List.getElem?_append_right (by omega), Nat.add_sub_cancel_left, List.getElem?_append_left (List.getElem?_eq_some_iff.mp h).1]; exact h
  exact ⟨fun k q h => hP _ q (gc k q h), ⟨fun i j u v hi hj he => by have h1 := hD.1 _ _ u v (gc i u hi) (gc j v hj) he; omega, fun k q h => hD.2 _ q (gc k q h)⟩⟩
theorem fr_free {A : Nat → Prop} {ws : va_W} {H0 H : Heap} {locs : List Loc} (hD : va_D A ws) (hS : va_S A H0 H locs) (hA : ∀ q, H0.size ≤ q → A q) : ∀ q, va_A ws H.size q → A q := by
  intro q h
  rcases h with ⟨k, e, h⟩ | h
  · exact hD.2 k (q, e) h
  · exact hA q (Nat.le_trans hS.1 h)
theorem pre_blind {G : Gid} {av : List Value} {ws : va_W} {sz : Nat} : FrameBlind (va_Pc av (PreW G ws sz)) := fun a U g mk q => by
  obtain ⟨q0, q1, qP, qK, qD⟩ := q
  exact ⟨q0, q1, qP, KG.same (u := U) (U := U.calling g mk a) rfl qK, qD⟩
theorem good_g : ∀ w ∈ gtbl, w ∈ gtbl ∧ ((w.onTables && w.keeps) = true ∨ ∃ ty, w = .arrayClass ty) := fun w h => ⟨h, good_of_word (List.mem_filter.mp h).2⟩
theorem good_wd {y : MethodName} {bt : ByteArray} {n : Nat} {rt : Option FieldType} (h : Cond.code y bt n rt ∈ gtbl) : GoodIn gtbl (wd y bt n rt) := by
  intro w hw
  rcases List.mem_cons.mp hw with rfl | hw
  · exact good_g _ h
  · exact good_g _ hw
theorem good_app {l1 l2 : List Cond} (h1 : GoodIn gtbl l1) (h2 : GoodIn gtbl l2) : GoodIn gtbl (l1 ++ l2) := by
  intro w hw
  rcases List.mem_append.mp hw with h | h
  · exact h1 w h
  · exact h2 w h
theorem good_cons {w : Cond} {l : List Cond} (h1 : w ∈ gtbl) (h2 : GoodIn gtbl l) : GoodIn gtbl (w :: l) := by
  intro v hv
  rcases List.mem_cons.mp hv with rfl | hv
  · exact good_g _ h1
  · exact h2 v hv
theorem good_nil : GoodIn gtbl [] := fun w hw => by cases hw
def OkV (own : String) (index : Nat) (C : String) (y : MethodName) (bt : ByteArray) (n : Nat) (rt : Option FieldType) (k : Nat) : Prop := Cond.methodLink own index y ∈ gtbl ∧ Cond.instanceMethod y ∈ gtbl ∧ Cond.selects C y y ∈ gtbl ∧ Cond.initialized C ∈ gtbl ∧ Cond.code y bt n rt ∈ gtbl ∧ (y.cls = C ∧ y.cls ≠ "java/lang/invoke/MethodHandle" ∧ y.cls ≠ "java/lang/invoke/VarHandle" ∧ (parseMethodDescriptor y.desc).map (fun d => d.parameters.length) = some k)
def OkS (own : String) (index : Nat) (y : MethodName) (bt : ByteArray) (n : Nat) (rt : Option FieldType) (k : Nat) : Prop := Cond.methodLink own index y ∈ gtbl ∧ Cond.static y ∈ gtbl ∧ Cond.initialized y.cls ∈ gtbl ∧ Cond.code y bt n rt ∈ gtbl ∧ (y.cls ≠ "java/lang/invoke/MethodHandle" ∧ y.cls ≠ "java/lang/invoke/VarHandle" ∧ (parseMethodDescriptor y.desc).map (fun d => d.parameters.length) = some k)
def OkI (own : String) (index : Nat) (y : MethodName) (bt : ByteArray) (n : Nat) (k : Nat) : Prop := Cond.methodLink own index y ∈ gtbl ∧ Cond.instanceMethod y ∈ gtbl ∧ Cond.initialized y.cls ∈ gtbl ∧ Cond.code y bt n none ∈ gtbl ∧ y.name = "<init>" ∧ (y.cls ≠ "java/lang/invoke/MethodHandle" ∧ y.cls ≠ "java/lang/invoke/VarHandle" ∧ (parseMethodDescriptor y.desc).map (fun d => d.parameters.length) = some k)
def OkN (own : String) (index : Nat) (y : MethodName) (host : String) (bt : ByteArray) (n : Nat) (k : Nat) : Prop := Cond.methodLinkNest own index y host ∈ nestW ∧ Cond.instanceMethod y ∈ gtbl ∧ Cond.initialized y.cls ∈ gtbl ∧ Cond.code y bt n none ∈ gtbl ∧ y.name = "<init>" ∧ (y.cls ≠ "java/lang/invoke/MethodHandle" ∧ y.cls ≠ "java/lang/invoke/VarHandle" ∧ (parseMethodDescriptor y.desc).map (fun d => d.parameters.length) = some k)
section JK
variable {x : Ctx} {G : Gid} {a b : Nat} {Q : State → Prop} {ws : va_W} {pc : Nat} {L L' : List (Option Value)} {st : List Value} {cc : ByteArray} {nL : Nat} {own : String} {rt rt0 : Option FieldType} {rm rm' : Room}
variable {y : MethodName} {bt : ByteArray} {n mc ms index : Nat} {C : String} {wc : va_W}
theorem j_callVi {post : Int32 → va_W → Prop} {o q0 ci : Nat} {fs : List Value} {T : u_T} {N : Nat} (X : Fix x G cc nL own rt0 rm) (As rest : List Value) (wa wb : va_W) (hM : CtI x.2.1 y bt n rt rm' G (.ref o :: As) wc mc ms post) (ok : OkV own index C y bt n rt As.length) (he : wc[q0]? = some (o, .inr (ci, fs))) (hc : classes[ci]? = some (C, T, N)) (hws : ws = wa ++ (wc ++ wb)) (hst : st = As.reverse ++ .ref o :: rest) (hrest : (rest.map fun v => v.category).sum ≤ 8) (hR : rm'.frames + 1 ≤ rm.frames ∧ 8 + (n + 11) + rm'.locals ≤ rm.locals) (hcs : rm'.cells = mc ∧ rm'.slots = ms) (hnL : L.length = nL) (hf : a + mc ≤ rm.cells ∧ b + ms ≤ rm.slots) (hd : decode cc pc = .ok (.invokevirtual index, 3)) (kk : ∀ (r : Int32) (w1 : va_W), post r w1 → J x G (a + mc) (b + ms) Q (wa ++ (w1 ++ wb)) (pc + 3) L (.int r :: rest)) : J x G a b Q ws pc L st := by
  obtain ⟨p, l, e, R, s, m, args, below, meth, c, A⟩ := x
  intro H locs ls hP hD hS hl
  obtain ⟨X1, X2, X3, X4, X5, rfl⟩ := X
  obtain ⟨k1, k2, k3, k4, k5, k6⟩ := ok
  subst hws
  obtain ⟨hPc, hDc⟩ := fr_sub hP hD
  have hF := fr_free hDc hS X3
  refine va_calli (va_runV (As := As) (rest := rest) ⟨X1.1, X1.2.1, X1.2.2.1, X1.2.2.2.1, X1.2.2.2.2⟩ (hM H.size) (cwV As.length X1.2.2.2.2 (show GoodIn gtbl (wsV own index C y (wd y bt n rt)) from good_cons k1 (good_cons k2 (good_cons k3 (good_cons k4 (good_wd k5))))) rfl hcs.1 hcs.2 k6 hR) ⟨pre_blind, va_recv X2.1 hPc hc he, fun U hU hW => ⟨rfl, by rw [hU], by rw [hU]; exact hPc, X2.warm hW, hDc.weaken (fun _ _ _ _ => trivial)⟩⟩ rfl rfl (by rw [← hnL]; exact hl.1) hst (lv_room hrest) hd hf) hS (fun q _ h => hF q h) hF (fun r w1 t H1 locs1 ht hvm hw hB hz1 hk1 hS1 => ?_)
  obtain ⟨hP1, hD1⟩ := hB
  rw [ht] at hP1
  obtain ⟨hP2, hD2⟩ := fr_join hP hD hk1 hF hP1 hD1
  exact kk r w1 hw H1 locs1 ls hP2 hD2 hS1 hl
theorem j_callVv {post : va_W → Prop} {o q0 ci : Nat} {fs : List Value} {T : u_T} {N : Nat} (X : Fix x G cc nL own rt0 rm) (As rest : List Value) (wa wb : va_W) (hM : CtV x.2.1 y bt n rm' G (.ref o :: As) wc mc ms post) (ok : OkV own index C y bt n none As.length) (he : wc[q0]? = some (o, .inr (ci, fs))) (hc : classes[ci]? = some (C, T, N)) (hws : ws = wa ++ (wc ++ wb)) (hst : st = As.reverse ++ .ref o :: rest) (hrest : (rest.map fun v => v.category).sum ≤ 8) (hR : rm'.frames + 1 ≤ rm.frames ∧ 8 + (n + 11) + rm'.locals ≤ rm.locals) (hcs : rm'.cells = mc ∧ rm'.slots = ms) (hnL : L.length = nL) (hf : a + mc ≤ rm.cells ∧ b + ms ≤ rm.slots) (hd : decode cc pc = .ok (.invokevirtual index, 3)) (kk : ∀ w1 : va_W, post w1 → J x G (a + mc) (b + ms) Q (wa ++ (w1 ++ wb)) (pc + 3) L rest) : J x G a b Q ws pc L st := by
  obtain ⟨p, l, e, R, s, m, args, below, meth, c, A⟩ := x
  intro H locs ls hP hD hS hl
  obtain ⟨X1, X2, X3, X4, X5, rfl⟩ := X
  obtain ⟨k1, k2, k3, k4, k5, k6⟩ := ok
  subst hws
  obtain ⟨hPc, hDc⟩ := fr_sub hP hD
  have hF := fr_free hDc hS X3
  refine va_callv (va_runV (As := As) (rest := rest) ⟨X1.1, X1.2.1, X1.2.2.1, X1.2.2.2.1, X1.2.2.2.2⟩ (hM H.size) (cwV As.length X1.2.2.2.2 (show GoodIn gtbl (wsV own index C y (wd y bt n none)) from good_cons k1 (good_cons k2 (good_cons k3 (good_cons k4 (good_wd k5))))) rfl hcs.1 hcs.2 k6 hR) ⟨pre_blind, va_recv X2.1 hPc hc he, fun U hU hW => ⟨rfl, by rw [hU], by rw [hU]; exact hPc, X2.warm hW, hDc.weaken (fun _ _ _ _ => trivial)⟩⟩ rfl rfl (by rw [← hnL]; exact hl.1) hst (lv_room hrest) hd hf) hS (fun q _ h => hF q h) hF (fun w1 t H1 locs1 ht hvm hw hB hz1 hk1 hS1 => ?_)
  obtain ⟨hP1, hD1⟩ := hB
  rw [ht] at hP1
  obtain ⟨hP2, hD2⟩ := fr_join hP hD hk1 hF hP1 hD1
  exact kk w1 hw H1 locs1 ls hP2 hD2 hS1 hl
theorem j_callSi {post : Int32 → va_W → Prop} (X : Fix x G cc nL own rt0 rm) (As rest : List Value) (wa wb : va_W) (hM : CtI x.2.1 y bt n rt rm' G As wc mc ms post) (ok : OkS own index y bt n rt As.length) (hws : ws = wa ++ (wc ++ wb)) (hst : st = As.reverse ++ rest) (hrest : (rest.map fun v => v.category).sum ≤ 8) (hR : rm'.frames + 1 ≤ rm.frames ∧ 8 + (n + 11) + rm'.locals ≤ rm.locals) (hcs : rm'.cells = mc ∧ rm'.slots = ms) (hnL : L.length = nL) (hf : a + mc ≤ rm.cells ∧ b + ms ≤ rm.slots) (hd : decode cc pc = .ok (.invokestatic index, 3)) (kk : ∀ (r : Int32) (w1 : va_W), post r w1 → J x G (a + mc) (b + ms) Q (wa ++ (w1 ++ wb)) (pc + 3) L (.int r :: rest)) : J x G a b Q ws pc L st := by
  obtain ⟨p, l, e, R, s, m, args, below, meth, c, A⟩ := x
  intro H locs ls hP hD hS hl
  obtain ⟨X1, X2, X3, X4, X5, rfl⟩ := X
  obtain ⟨k1, k2, k3, k4, k5⟩ := ok
  subst hws
  obtain ⟨hPc, hDc⟩ := fr_sub hP hD
  have hF := fr_free hDc hS X3
  refine va_calli (va_runS (As := As) (rest := rest) ⟨X1.1, X1.2.1, X1.2.2.1, X1.2.2.2.1, X1.2.2.2.2⟩ (hM H.size) (va_cwS As.length X1.2.2.2.2 (show GoodIn gtbl (va_wsS own index y (wd y bt n rt)) from good_cons k1 (good_cons k2 (good_cons k3 (good_wd k4)))) rfl hcs.1 hcs.2 k5 hR) ⟨pre_blind, fun U hU hW => ⟨rfl, by rw [hU], by rw [hU]; exact hPc, X2.warm hW, hDc.weaken (fun _ _ _ _ => trivial)⟩⟩ rfl rfl (by rw [← hnL]; exact hl.1) hst (lv_room hrest) hd hf) hS (fun q _ h => hF q h) hF (fun r w1 t H1 locs1 ht hvm hw hB hz1 hk1 hS1 => ?_)
  obtain ⟨hP1, hD1⟩ := hB
  rw [ht] at hP1
  obtain ⟨hP2, hD2⟩ := fr_join hP hD hk1 hF hP1 hD1
  exact kk r w1 hw H1 locs1 ls hP2 hD2 hS1 hl
theorem j_callI {post : va_W → Prop} {o : Nat} (X : Fix x G cc nL own rt0 rm) (As rest : List Value) (wa wb : va_W) (hM : CtV x.2.1 y bt n rm' G (.ref o :: As) wc mc ms post) (ok : OkI own index y bt n As.length) (hws : ws = wa ++ (wc ++ wb)) (hst : st = As.reverse ++ .ref o :: rest) (hrest : (rest.map fun v => v.category).sum ≤ 8) (hR : rm'.frames + 1 ≤ rm.frames ∧ 8 + (n + 11) + rm'.locals ≤ rm.locals) (hcs : rm'.cells = mc ∧ rm'.slots = ms) (hnL : L.length = nL) (hf : a + mc ≤ rm.cells ∧ b + ms ≤ rm.slots) (hd : decode cc pc = .ok (.invokespecial index, 3)) (kk : ∀ w1 : va_W, post w1 → J x G (a + mc) (b + ms) Q (wa ++ (w1 ++ wb)) (pc + 3) L rest) : J x G a b Q ws pc L st := by
  obtain ⟨p, l, e, R, s, m, args, below, meth, c, A⟩ := x
  intro H locs ls hP hD hS hl
  obtain ⟨X1, X2, X3, X4, X5, rfl⟩ := X
  obtain ⟨k1, k2, k3, k4, k5, k6⟩ := ok
  subst hws
  obtain ⟨hPc, hDc⟩ := fr_sub hP hD
  have hF := fr_free hDc hS X3
  refine va_callv (va_runI (As := As) (rest := rest) ⟨X1.1, X1.2.1, X1.2.2.1, X1.2.2.2.1, X1.2.2.2.2⟩ (hM H.size) (cwI As.length X1.2.2.2.2 (good_wd k4) rfl hcs.1 hcs.2 (X1.2.2.2.2 _ k3) (X1.2.2.2.2 _ k1) (X1.2.2.2.2 _ k2) k5 k6 hR) ⟨pre_blind, fun U hU hW => ⟨rfl, by rw [hU], by rw [hU]; exact hPc, X2.warm hW, hDc.weaken (fun _ _ _ _ => trivial)⟩⟩ rfl rfl (by rw [← hnL]; exact hl.1) hst (lv_room hrest) hd hf) hS (fun q _ h => hF q h) hF (fun w1 t H1 locs1 ht hvm hw hB hz1 hk1 hS1 => ?_)
  obtain ⟨hP1, hD1⟩ := hB
  rw [ht] at hP1
  obtain ⟨hP2, hD2⟩ := fr_join hP hD hk1 hF hP1 hD1
  exact kk w1 hw H1 locs1 ls hP2 hD2 hS1 hl
theorem j_callN {post : va_W → Prop} {o : Nat} {host : String} (X : Fix x G cc nL own rt0 rm) (As rest : List Value) (wa wb : va_W) (hM : CtV x.2.1 y bt n rm' G (.ref o :: As) wc mc ms post) (ok : OkN own index y host bt n As.length) (hws : ws = wa ++ (wc ++ wb)) (hst : st = As.reverse ++ .ref o :: rest) (hrest : (rest.map fun v => v.category).sum ≤ 8) (hR : rm'.frames + 1 ≤ rm.frames ∧ 8 + (n + 11) + rm'.locals ≤ rm.locals) (hcs : rm'.cells = mc ∧ rm'.slots = ms) (hnL : L.length = nL) (hf : a + mc ≤ rm.cells ∧ b + ms ≤ rm.slots) (hd : decode cc pc = .ok (.invokespecial index, 3)) (kk : ∀ w1 : va_W, post w1 → J x G (a + mc) (b + ms) Q (wa ++ (w1 ++ wb)) (pc + 3) L rest) : J x G a b Q ws pc L st := by
  obtain ⟨p, l, e, R, s, m, args, below, meth, c, A⟩ := x
  intro H locs ls hP hD hS hl
  obtain ⟨X1, X2, X3, X4, X5, rfl⟩ := X
  obtain ⟨k1, k2, k3, k4, k5, k6⟩ := ok
  subst hws
  obtain ⟨hPc, hDc⟩ := fr_sub hP hD
  have hF := fr_free hDc hS X3
  refine va_callv (va_runIN (As := As) (rest := rest) ⟨X1.1, X1.2.1, X1.2.2.1, X1.2.2.2.1, X1.2.2.2.2⟩ (hM H.size) ⟨va_cnB (host := host) As.length X1.2.2.2.2 (good_wd k4) rfl hcs.1 hcs.2 (X2.2.1 _ k1) (X1.2.2.2.2 _ k3) k6 hR, k5, X1.2.2.2.2 _ k2⟩ ⟨pre_blind, fun U hU hW => ⟨rfl, by rw [hU], by rw [hU]; exact hPc, X2.warm hW, hDc.weaken (fun _ _ _ _ => trivial)⟩⟩ rfl rfl (by rw [← hnL]; exact hl.1) hst (lv_room hrest) hd hf) hS (fun q _ h => hF q h) hF (fun w1 t H1 locs1 ht hvm hw hB hz1 hk1 hS1 => ?_)
  obtain ⟨hP1, hD1⟩ := hB
  rw [ht] at hP1
  obtain ⟨hP2, hD2⟩ := fr_join hP hD hk1 hF hP1 hD1
  exact kk w1 hw H1 locs1 ls hP2 hD2 hS1 hl
theorem j_callVi0 {post : Int32 → va_W → Prop} {o q0 ci : Nat} {fs : List Value} {T : u_T} {N : Nat} (X : Fix x G cc nL own rt0 rm) (As rest : List Value) (hM : CtI x.2.1 y bt n rt rm' G (.ref o :: As) ws 0 0 post) (ok : OkV own index C y bt n rt As.length) (he : ws[q0]? = some (o, .inr (ci, fs))) (hc : classes[ci]? = some (C, T, N)) (hst : st = As.reverse ++ .ref o :: rest) (hrest : (rest.map fun v => v.category).sum ≤ 8) (hR : rm'.frames + 1 ≤ rm.frames ∧ 8 + (n + 11) + rm'.locals ≤ rm.locals) (hcs : rm'.cells = 0 ∧ rm'.slots = 0) (hnL : L.length = nL) (hf : a ≤ rm.cells ∧ b ≤ rm.slots) (hd : decode cc pc = .ok (.invokevirtual index, 3)) (kk : ∀ (r : Int32) (w1 : va_W), post r w1 → J x G a b Q w1 (pc + 3) L (.int r :: rest)) : J x G a b Q ws pc L st :=
  j_callVi X As rest [] [] hM ok he hc (List.append_nil _).symm hst hrest hR hcs hnL hf hd (fun r w1 hw => by rw [List.nil_append, List.append_nil]; exact kk r w1 hw)
theorem j_callVv0 {post : va_W → Prop} {o q0 ci : Nat} {fs : List Value} {T : u_T} {N : Nat} (X : Fix x G cc nL own rt0 rm) (As rest : List Value) (hM : CtV x.2.1 y bt n rm' G (.ref o :: As) ws 0 0 post) (ok : OkV own index C y bt n none As.length) (he : ws[q0]? = some (o, .inr (ci, fs))) (hc : classes[ci]? = some (C, T, N)) (hst : st = As.reverse ++ .ref o :: rest) (hrest : (rest.map fun v => v.category).sum ≤ 8) (hR : rm'.frames + 1 ≤ rm.frames ∧ 8 + (n + 11) + rm'.locals ≤ rm.locals) (hcs : rm'.cells = 0 ∧ rm'.slots = 0) (hnL : L.length = nL) (hf : a ≤ rm.cells ∧ b ≤ rm.slots) (hd : decode cc pc = .ok (.invokevirtual index, 3)) (kk : ∀ w1 : va_W, post w1 → J x G a b Q w1 (pc + 3) L rest) : J x G a b Q ws pc L st :=
  j_callVv X As rest [] [] hM ok he hc (List.append_nil _).symm hst hrest hR hcs hnL hf hd (fun w1 hw => by rw [List.nil_append, List.append_nil]; exact kk w1 hw)
theorem j_callSi0 {post : Int32 → va_W → Prop} (X : Fix x G cc nL own rt0 rm) (As rest : List Value) (hM : CtI x.2.1 y bt n rt rm' G As ws 0 0 post) (ok : OkS own index y bt n rt As.length) (hst : st = As.reverse ++ rest) (hrest : (rest.map fun v => v.category).sum ≤ 8) (hR : rm'.frames + 1 ≤ rm.frames ∧ 8 + (n + 11) + rm'.locals ≤ rm.locals) (hcs : rm'.cells = 0 ∧ rm'.slots = 0) (hnL : L.length = nL) (hf : a ≤ rm.cells ∧ b ≤ rm.slots) (hd : decode cc pc = .ok (.invokestatic index, 3)) (kk : ∀ (r : Int32) (w1 : va_W), post r w1 → J x G a b Q w1 (pc + 3) L (.int r :: rest)) : J x G a b Q ws pc L st :=
  j_callSi X As rest [] [] hM ok (List.append_nil _).symm hst hrest hR hcs hnL hf hd (fun r w1 hw => by rw [List.nil_append, List.append_nil]; exact kk r w1 hw)
end JK
end
section
theorem ok_law_9 : OkI R_law 9 y_TG_init b_TG_init 2 0 := ⟨ml_law_9, im_TG_init, ini_TG, cd_TG_init, rfl, by decide +kernel⟩
theorem ok_TG_23 : OkN R_TG 23 y_Bk_init R_TG b_Bk_init 1 0 := ⟨ml_TG_23, im_Bk_init, ini_Bk, cd_Bk_init, rfl, by decide +kernel⟩
theorem ok_TG_28 : OkN R_TG 28 y_Tm_init R_TG b_Tm_init 1 0 := ⟨ml_TG_28, im_Tm_init, ini_Tm, cd_Tm_init, rfl, by decide +kernel⟩
theorem ok_TG_29 : OkN R_TG 29 y_Gt_init R_TG b_Gt_init 1 0 := ⟨ml_TG_29, im_Gt_init, ini_Gt, cd_Gt_init, rfl, by decide +kernel⟩
theorem ok_law_13 : OkV R_law 13 R_TG y_TG_set b_TG_set 6 (some .boolean) 4 := ⟨ml_law_13, im_TG_set, sel_TG_set, ini_TG, cd_TG_set, by decide +kernel⟩
theorem ok_TG_30 : OkS R_TG 30 y_TG_isTimer b_TG_isTimer 1 (some .boolean) 1 := ⟨ml_TG_30, sta_TG_isTimer, ini_TG, cd_TG_isTimer, by decide +kernel⟩
theorem ok_law_18 : OkV R_law 18 R_TG y_TG_turn b_TG_turn 3 (some .boolean) 2 := ⟨ml_law_18, im_TG_turn, sel_TG_turn, ini_TG, cd_TG_turn, by decide +kernel⟩
theorem ok_law_23 : OkV R_law 23 R_TG y_TG_gate b_TG_gate 4 (some .boolean) 3 := ⟨ml_law_23, im_TG_gate, sel_TG_gate, ini_TG, cd_TG_gate, by decide +kernel⟩
theorem ok_TG_52 : OkS R_TG 52 y_TG_isGate b_TG_isGate 1 (some .boolean) 1 := ⟨ml_TG_52, sta_TG_isGate, ini_TG, cd_TG_isGate, by decide +kernel⟩
theorem ok_law_28 : OkV R_law 28 R_TG y_TG_clear b_TG_clear 4 (some .int) 1 := ⟨ml_law_28, im_TG_clear, sel_TG_clear, ini_TG, cd_TG_clear, by decide +kernel⟩
theorem ok_law_33 : OkV R_law 33 R_TG y_TG_advance b_TG_advance 5 (some .int) 1 := ⟨ml_law_33, im_TG_advance, sel_TG_advance, ini_TG, cd_TG_advance, by decide +kernel⟩
theorem ok_TG_114 : OkV R_TG 114 R_TG y_TG_quiet b_TG_quiet 6 (some .int) 0 := ⟨ml_TG_114, im_TG_quiet, sel_TG_quiet, ini_TG, cd_TG_quiet, by decide +kernel⟩
theorem ok_TG_79 : OkV R_TG 79 R_TG y_TG_asks b_TG_asks 2 (some .boolean) 1 := ⟨ml_TG_79, im_TG_asks, sel_TG_asks, ini_TG, cd_TG_asks, by decide +kernel⟩
theorem ok_TG_118 : OkV R_TG 118 R_TG y_TG_pass b_TG_pass 8 (some .int) 1 := ⟨ml_TG_118, im_TG_pass, sel_TG_pass, ini_TG, cd_TG_pass, by decide +kernel⟩
theorem ok_TG_86 : OkV R_TG 86 R_Tm y_Tm_comes b_Tm_comes 2 (some .boolean) 1 := ⟨ml_TG_86, im_Tm_comes, sel_Tm_comes, ini_Tm, cd_Tm_comes, by decide +kernel⟩
theorem ok_TG_92 : OkV R_TG 92 R_TG y_TG_serve b_TG_serve 5 (some .int) 2 := ⟨ml_TG_92, im_TG_serve, sel_TG_serve, ini_TG, cd_TG_serve, by decide +kernel⟩
theorem ok_TG_99 : OkS R_TG 99 y_Itg_ntz b_Itg_ntz 2 (some .int) 1 := ⟨ml_TG_99, sta_Itg_ntz, ini_Itg, cd_Itg_ntz, by decide +kernel⟩
theorem ok_TG_110 : OkV R_TG 110 R_Bk y_Bk_add b_Bk_add 5 none 3 := ⟨ml_TG_110, im_Bk_add, sel_Bk_add, ini_Bk, cd_Bk_add, by decide +kernel⟩
theorem ok_law_37 : OkV R_law 37 R_TG y_TG_next b_TG_next 5 (some .int) 1 := ⟨ml_law_37, im_TG_next, sel_TG_next, ini_TG, cd_TG_next, by decide +kernel⟩
theorem ok_law_41 : OkV R_law 41 R_TG y_TG_timer b_TG_timer 4 (some .int) 2 := ⟨ml_law_41, im_TG_timer, sel_TG_timer, ini_TG, cd_TG_timer, by decide +kernel⟩
theorem ok_law_46 : OkV R_law 46 R_TG y_TG_gateOf b_TG_gateOf 4 (some .int) 2 := ⟨ml_law_46, im_TG_gateOf, sel_TG_gateOf, ini_TG, cd_TG_gateOf, by decide +kernel⟩
theorem ok_law_50 : OkV R_law 50 R_TG y_TG_look b_TG_look 7 (some .int) 1 := ⟨ml_law_50, im_TG_look, sel_TG_look, ini_TG, cd_TG_look, by decide +kernel⟩
theorem ok_law_54 : OkV R_law 54 R_TG y_TG_served b_TG_served 3 (some .int) 2 := ⟨ml_law_54, im_TG_served, sel_TG_served, ini_TG, cd_TG_served, by decide +kernel⟩
theorem ok_TG_127 : OkV R_TG 127 R_Bk y_Bk_get b_Bk_get 4 (some .int) 2 := ⟨ml_TG_127, im_Bk_get, sel_Bk_get, ini_Bk, cd_Bk_get, by decide +kernel⟩
theorem ok_law_12 : OkI R_law 12 y_Md_init b_Md_init 1 0 := ⟨ml_law_12, im_Md_init, ini_Md, cd_Md_init, rfl, by decide +kernel⟩
theorem ok_law_17 : OkV R_law 17 R_Md y_Md_set b_Md_set 5 (some .boolean) 4 := ⟨ml_law_17, im_Md_set, sel_Md_set, ini_Md, cd_Md_set, by decide +kernel⟩
theorem ok_Md_57 : OkS R_Md 57 y_Md_isIn b_Md_isIn 3 (some .boolean) 3 := ⟨ml_Md_57, sta_Md_isIn, ini_Md, cd_Md_isIn, by decide +kernel⟩
theorem ok_law_22 : OkV R_law 22 R_Md y_Md_turn b_Md_turn 3 (some .boolean) 2 := ⟨ml_law_22, im_Md_turn, sel_Md_turn, ini_Md, cd_Md_turn, by decide +kernel⟩
theorem ok_law_27 : OkV R_law 27 R_Md y_Md_gate b_Md_gate 4 (some .boolean) 3 := ⟨ml_law_27, im_Md_gate, sel_Md_gate, ini_Md, cd_Md_gate, by decide +kernel⟩
theorem ok_law_32 : OkV R_law 32 R_Md y_Md_clear b_Md_clear 4 (some .int) 1 := ⟨ml_law_32, im_Md_clear, sel_Md_clear, ini_Md, cd_Md_clear, by decide +kernel⟩
theorem ok_law_36 : OkV R_law 36 R_Md y_Md_advance b_Md_advance 4 (some .int) 1 := ⟨ml_law_36, im_Md_advance, sel_Md_advance, ini_Md, cd_Md_advance, by decide +kernel⟩
theorem ok_Md_82 : OkV R_Md 82 R_Md y_Md_tick b_Md_tick 3 none 0 := ⟨ml_Md_82, im_Md_tick, sel_Md_tick, ini_Md, cd_Md_tick, by decide +kernel⟩
theorem ok_Md_75 : OkV R_Md 75 R_Md y_Md_event b_Md_event 2 (some .boolean) 1 := ⟨ml_Md_75, im_Md_event, sel_Md_event, ini_Md, cd_Md_event, by decide +kernel⟩
theorem ok_Md_78 : OkV R_Md 78 R_Md y_Md_serve b_Md_serve 4 none 1 := ⟨ml_Md_78, im_Md_serve, sel_Md_serve, ini_Md, cd_Md_serve, by decide +kernel⟩
theorem ok_Md_65 : OkV R_Md 65 R_Md y_Md_asks b_Md_asks 2 (some .boolean) 1 := ⟨ml_Md_65, im_Md_asks, sel_Md_asks, ini_Md, cd_Md_asks, by decide +kernel⟩
theorem ok_law_40 : OkV R_law 40 R_Md y_Md_next b_Md_next 4 (some .int) 1 := ⟨ml_law_40, im_Md_next, sel_Md_next, ini_Md, cd_Md_next, by decide +kernel⟩
theorem ok_law_45 : OkV R_law 45 R_Md y_Md_timer b_Md_timer 3 (some .int) 2 := ⟨ml_law_45, im_Md_timer, sel_Md_timer, ini_Md, cd_Md_timer, by decide +kernel⟩
theorem ok_law_49 : OkV R_law 49 R_Md y_Md_gateOf b_Md_gateOf 3 (some .int) 2 := ⟨ml_law_49, im_Md_gateOf, sel_Md_gateOf, ini_Md, cd_Md_gateOf, by decide +kernel⟩
theorem ok_law_53 : OkV R_law 53 R_Md y_Md_look b_Md_look 4 (some .int) 1 := ⟨ml_law_53, im_Md_look, sel_Md_look, ini_Md, cd_Md_look, by decide +kernel⟩
theorem ok_law_57 : OkV R_law 57 R_Md y_Md_served b_Md_served 3 (some .int) 2 := ⟨ml_law_57, im_Md_served, sel_Md_served, ini_Md, cd_Md_served, by decide +kernel⟩
end
section
/-! ===== the abstract state, and the worlds of both sides ===== -/
abbrev St : Type := Nat → Nat → Int32
def up (S : St) (f i : Nat) (v : Int32) : St := fun a => if a = f then upd (S a) i v else S a
theorem up_f {S : St} {f i : Nat} {v : Int32} {a : Nat} (h : a ≠ f) : up S f i v a = S a := by unfold up; rw [if_neg h]
theorem up_s {S : St} {f i : Nat} {v : Int32} : up S f i v f = upd (S f) i v := by unfold up; rw [if_pos rfl]
theorem up_si {S : St} {f i : Nat} {v : Int32} : up S f i v f i = v := by rw [up_s]; exact pk_us
theorem up_sn {S : St} {f i j : Nat} {v : Int32} (h : j ≠ i) : up S f i v f j = S f j := by rw [up_s]; exact pk_un h
def oft (S : St) : Nat → Int32 := fun j => S (5 + j % 4) (j / 4)
def rowF (S : St) : Nat → Int32 := fun j => S (20 + j % 3) (j / 3)
theorem oft_up {S : St} {f i : Nat} {v : Int32} (h : f < 5 ∨ 8 < f) : oft (up S f i v) = oft S := funext fun j => by
  show up S f i v (5 + j % 4) (j / 4) = S (5 + j % 4) (j / 4)
  rw [up_f (by omega)]
theorem rowF_up {S : St} {f i : Nat} {v : Int32} (h : f < 20 ∨ 22 < f) : rowF (up S f i v) = rowF S := funext fun j => by
  show up S f i v (20 + j % 3) (j / 3) = S (20 + j % 3) (j / 3)
  rw [up_f (by omega)]
theorem oft_set {S : St} {k t : Nat} {v : Int32} (hk : k < 4) : upd (oft S) (4 * t + k) v = oft (up S (5 + k) t v) := funext fun j => by
  show (if j = 4 * t + k then v else S (5 + j % 4) (j / 4)) = up S (5 + k) t v (5 + j % 4) (j / 4)
  by_cases h : j = 4 * t + k
  · rw [if_pos h, show j % 4 = k by omega, show j / 4 = t by omega, up_si]
  · rw [if_neg h]
    by_cases h1 : j % 4 = k
    · rw [h1, up_sn (by omega)]
    · rw [up_f (by omega)]
theorem rowF_set {S : St} {k t : Nat} {v : Int32} (hk : k < 3) : upd (rowF S) (3 * t + k) v = rowF (up S (20 + k) t v) := funext fun j => by
  show (if j = 3 * t + k then v else S (20 + j % 3) (j / 3)) = up S (20 + k) t v (20 + j % 3) (j / 3)
  by_cases h : j = 3 * t + k
  · rw [if_pos h, show j % 3 = k by omega, show j / 3 = t by omega, up_si]
  · rw [if_neg h]
    by_cases h1 : j % 3 = k
    · rw [h1, up_sn (by omega)]
    · rw [up_f (by omega)]
theorem oft_at {S : St} {k t : Nat} (hk : k < 4) : oft S (4 * t + k) = S (5 + k) t := by
  show S (5 + (4 * t + k) % 4) ((4 * t + k) / 4) = _
  rw [show (4 * t + k) % 4 = k by omega, show (4 * t + k) / 4 = t by omega]
theorem rowF_at {S : St} {k t : Nat} (hk : k < 3) : rowF S (3 * t + k) = S (20 + k) t := by
  show S (20 + (3 * t + k) % 3) ((3 * t + k) / 3) = _
  rw [show (3 * t + k) % 3 = k by omega, show (3 * t + k) / 3 = t by omega]
def tF (S : St) (t : Nat) : List Value := [.int (S 0 t), .int (S 1 t), .int (S 2 t), .int (S 3 t), .int (S 4 t), .int (S 5 t), .int (S 6 t), .int (S 7 t), .int (S 8 t)]
def gF (S : St) (g : Nat) : List Value := [.int (S 10 g), .int (S 11 g), .int (S 12 g), .int (S 13 g), .int (S 14 g), .int (S 15 g)]
def xF (ad : Nat → Nat) (S : St) : List Value := [.ref (ad 1), .ref (ad 2), .ref (ad 3), .int (S 30 0), .int (S 31 0)]
def bF (ad : Nat → Nat) (S : St) : List Value := [.ref (ad 4), .ref (ad 5), .ref (ad 6), .int (S 32 0)]
def wX (G : Gid) (ad : Nat → Nat) (S : St) : va_W := [(ad 0, .inr (3, xF ad S)), (ad 1, .inl (G.2 2, 8, .inr (.inr (.inr (.inr (fun t => some (ad (7 + t)))))))), (ad 2, .inl (G.2 3, 4, .inr (.inr (.inr (.inr (fun g => some (ad (15 + g)))))))), (ad 3, .inr (2, bF ad S)),
  (ad 4, .inl (G.2 0, 16, .inl (S 20))), (ad 5, .inl (G.2 0, 16, .inl (S 21))), (ad 6, .inl (G.2 0, 16, .inl (S 22))),
  (ad 7, .inr (0, tF S 0)), (ad 8, .inr (0, tF S 1)), (ad 9, .inr (0, tF S 2)), (ad 10, .inr (0, tF S 3)), (ad 11, .inr (0, tF S 4)), (ad 12, .inr (0, tF S 5)), (ad 13, .inr (0, tF S 6)), (ad 14, .inr (0, tF S 7)),
  (ad 15, .inr (1, gF S 0)), (ad 16, .inr (1, gF S 1)), (ad 17, .inr (1, gF S 2)), (ad 18, .inr (1, gF S 3))]
def mF (bd : Nat → Nat) (S : St) : List Value := [.int 0, .int (S 31 0), .int (S 30 0), .int (S 32 0), .ref (bd 1), .ref (bd 2), .ref (bd 3), .ref (bd 4), .ref (bd 5), .ref (bd 6), .ref (bd 7), .ref (bd 8), .ref (bd 9), .ref (bd 10), .ref (bd 11), .ref (bd 12), .ref (bd 13), .ref (bd 14)]
def wM (G : Gid) (bd : Nat → Nat) (S : St) (dn : Nat → Int32) : va_W := [(bd 0, .inr (4, mF bd S)), (bd 1, .inl (G.2 0, 8, .inl (S 0))), (bd 2, .inl (G.2 0, 8, .inl (S 1))), (bd 3, .inl (G.2 0, 8, .inl (S 2))), (bd 4, .inl (G.2 1, 8, .inl (S 4))), (bd 5, .inl (G.2 1, 8, .inl (S 3))), (bd 6, .inl (G.2 0, 32, .inl (oft S))),
  (bd 7, .inl (G.2 0, 4, .inl (S 10))), (bd 8, .inl (G.2 0, 4, .inl (S 11))), (bd 9, .inl (G.2 0, 4, .inl (S 12))), (bd 10, .inl (G.2 1, 4, .inl dn)), (bd 11, .inl (G.2 0, 4, .inl (S 13))), (bd 12, .inl (G.2 0, 4, .inl (S 14))), (bd 13, .inl (G.2 0, 4, .inl (S 15))), (bd 14, .inl (G.2 0, 48, .inl (rowF S)))]
section WX
variable {G : Gid} {ad bd : Nat → Nat} {S : St} {dn : Nat → Int32} {v : Int32} {i : Nat}
theorem lt8 {t : Nat} (h : t < 8) : t = 0 ∨ t = 1 ∨ t = 2 ∨ t = 3 ∨ t = 4 ∨ t = 5 ∨ t = 6 ∨ t = 7 := by omega
theorem lt4 {t : Nat} (h : t < 4) : t = 0 ∨ t = 1 ∨ t = 2 ∨ t = 3 := by omega
theorem wX_T {t : Nat} (h : t < 8) : (wX G ad S)[7 + t]? = some (ad (7 + t), .inr (0, tF S t)) := by
  rcases lt8 h with rfl | rfl | rfl | rfl | rfl | rfl | rfl | rfl <;> rfl
theorem wX_G {g : Nat} (h : g < 4) : (wX G ad S)[15 + g]? = some (ad (15 + g), .inr (1, gF S g)) := by
  rcases lt4 h with rfl | rfl | rfl | rfl <;> rfl
set_option maxHeartbeats 4000000 in
theorem wX_setT {t k : Nat} (h : t < 8) (hk : k < 9) : (wX G ad S).set (7 + t) (ad (7 + t), .inr (0, (tF S t).set k (.int v))) = wX G ad (up S k t v) := by
  rcases lt8 h with rfl | rfl | rfl | rfl | rfl | rfl | rfl | rfl <;> rcases (show k = 0 ∨ k = 1 ∨ k = 2 ∨ k = 3 ∨ k = 4 ∨ k = 5 ∨ k = 6 ∨ k = 7 ∨ k = 8 by omega) with rfl | rfl | rfl | rfl | rfl | rfl | rfl | rfl | rfl <;> rfl
theorem wX_setG {g k : Nat} (h : g < 4) (hk : k < 6) : (wX G ad S).set (15 + g) (ad (15 + g), .inr (1, (gF S g).set k (.int v))) = wX G ad (up S (10 + k) g v) := by
  rcases lt4 h with rfl | rfl | rfl | rfl <;> rcases (show k = 0 ∨ k = 1 ∨ k = 2 ∨ k = 3 ∨ k = 4 ∨ k = 5 by omega) with rfl | rfl | rfl | rfl | rfl | rfl <;> rfl
theorem wX_sta : (wX G ad S).set 0 (ad 0, .inr (3, (xF ad S).set 3 (.int v))) = wX G ad (up S 30 0 v) := rfl
theorem wX_now : (wX G ad S).set 0 (ad 0, .inr (3, (xF ad S).set 4 (.int v))) = wX G ad (up S 31 0 v) := rfl
theorem wX_many : (wX G ad S).set 3 (ad 3, .inr (2, (bF ad S).set 3 (.int v))) = wX G ad (up S 32 0 v) := rfl
theorem wX_b0 : (wX G ad S).set 4 (ad 4, .inl (G.2 0, 16, .inl (upd (S 20) i v))) = wX G ad (up S 20 i v) := rfl
theorem wX_b1 : (wX G ad S).set 5 (ad 5, .inl (G.2 0, 16, .inl (upd (S 21) i v))) = wX G ad (up S 21 i v) := rfl
theorem wX_b2 : (wX G ad S).set 6 (ad 6, .inl (G.2 0, 16, .inl (upd (S 22) i v))) = wX G ad (up S 22 i v) := rfl
theorem wM_now : (wM G bd S dn).set 0 (bd 0, .inr (4, (mF bd S).set 1 (.int v))) = wM G bd (up S 31 0 v) dn := by
  unfold wM
  rw [oft_up (S := S) (by omega), rowF_up (S := S) (by omega)]
  rfl
theorem wM_sta : (wM G bd S dn).set 0 (bd 0, .inr (4, (mF bd S).set 2 (.int v))) = wM G bd (up S 30 0 v) dn := by
  unfold wM
  rw [oft_up (S := S) (by omega), rowF_up (S := S) (by omega)]
  rfl
theorem wM_srv : (wM G bd S dn).set 0 (bd 0, .inr (4, (mF bd S).set 3 (.int v))) = wM G bd (up S 32 0 v) dn := by
  unfold wM
  rw [oft_up (S := S) (by omega), rowF_up (S := S) (by omega)]
  rfl
theorem wM_1 : (wM G bd S dn).set 1 (bd 1, .inl (G.2 0, 8, .inl (upd (S 0) i v))) = wM G bd (up S 0 i v) dn := by
  unfold wM
  rw [oft_up (S := S) (by omega), rowF_up (S := S) (by omega)]
  rfl
theorem wM_2 : (wM G bd S dn).set 2 (bd 2, .inl (G.2 0, 8, .inl (upd (S 1) i v))) = wM G bd (up S 1 i v) dn := by
  unfold wM
  rw [oft_up (S := S) (by omega), rowF_up (S := S) (by omega)]
  rfl
theorem wM_3 : (wM G bd S dn).set 3 (bd 3, .inl (G.2 0, 8, .inl (upd (S 2) i v))) = wM G bd (up S 2 i v) dn := by
  unfold wM
  rw [oft_up (S := S) (by omega), rowF_up (S := S) (by omega)]
  rfl
theorem wM_4 : (wM G bd S dn).set 4 (bd 4, .inl (G.2 1, 8, .inl (upd (S 4) i v))) = wM G bd (up S 4 i v) dn := by
  unfold wM
  rw [oft_up (S := S) (by omega), rowF_up (S := S) (by omega)]
  rfl
theorem wM_5 : (wM G bd S dn).set 5 (bd 5, .inl (G.2 1, 8, .inl (upd (S 3) i v))) = wM G bd (up S 3 i v) dn := by
  unfold wM
  rw [oft_up (S := S) (by omega), rowF_up (S := S) (by omega)]
  rfl
theorem wM_7 : (wM G bd S dn).set 7 (bd 7, .inl (G.2 0, 4, .inl (upd (S 10) i v))) = wM G bd (up S 10 i v) dn := by
  unfold wM
  rw [oft_up (S := S) (by omega), rowF_up (S := S) (by omega)]
  rfl
theorem wM_8 : (wM G bd S dn).set 8 (bd 8, .inl (G.2 0, 4, .inl (upd (S 11) i v))) = wM G bd (up S 11 i v) dn := by
  unfold wM
  rw [oft_up (S := S) (by omega), rowF_up (S := S) (by omega)]
  rfl
theorem wM_9 : (wM G bd S dn).set 9 (bd 9, .inl (G.2 0, 4, .inl (upd (S 12) i v))) = wM G bd (up S 12 i v) dn := by
  unfold wM
  rw [oft_up (S := S) (by omega), rowF_up (S := S) (by omega)]
  rfl
theorem wM_11 : (wM G bd S dn).set 11 (bd 11, .inl (G.2 0, 4, .inl (upd (S 13) i v))) = wM G bd (up S 13 i v) dn := by
  unfold wM
  rw [oft_up (S := S) (by omega), rowF_up (S := S) (by omega)]
  rfl
theorem wM_12 : (wM G bd S dn).set 12 (bd 12, .inl (G.2 0, 4, .inl (upd (S 14) i v))) = wM G bd (up S 14 i v) dn := by
  unfold wM
  rw [oft_up (S := S) (by omega), rowF_up (S := S) (by omega)]
  rfl
theorem wM_13 : (wM G bd S dn).set 13 (bd 13, .inl (G.2 0, 4, .inl (upd (S 15) i v))) = wM G bd (up S 15 i v) dn := by
  unfold wM
  rw [oft_up (S := S) (by omega), rowF_up (S := S) (by omega)]
  rfl
theorem wM_10 : (wM G bd S dn).set 10 (bd 10, .inl (G.2 1, 4, .inl (upd dn i v))) = wM G bd S (upd dn i v) := rfl
theorem wM_6 {k : Nat} (hk : k < 4) : (wM G bd S dn).set 6 (bd 6, .inl (G.2 0, 32, .inl (upd (oft S) (4 * i + k) v))) = wM G bd (up S (5 + k) i v) dn := by
  rw [oft_set hk]
  unfold wM
  rw [rowF_up (S := S) (by omega)]
  rcases lt4 hk with rfl | rfl | rfl | rfl <;> rfl
theorem wM_14 {k : Nat} (hk : k < 3) : (wM G bd S dn).set 14 (bd 14, .inl (G.2 0, 48, .inl (upd (rowF S) (3 * i + k) v))) = wM G bd (up S (20 + k) i v) dn := by
  rw [rowF_set hk]
  unfold wM
  rw [oft_up (S := S) (by omega)]
  rcases (show k = 0 ∨ k = 1 ∨ k = 2 by omega) with rfl | rfl | rfl <;> rfl
end WX
end
section
/-! ===== what the methods do, as functions of the abstract state (the same for both sides) ===== -/
def evE (k : Int32) (t : Nat) (S : St) : Int32 := if S 3 t = 0 then 0 else if 0 < S 1 t - k then 0 else 1
def evC (k : Int32) (t : Nat) (S : St) : St := if S 3 t = 0 then S else if 0 < S 1 t - k then up S 1 t (S 1 t - k) else up (up (up (up S 1 t (S 1 t - k)) 1 t (S 0 t)) 3 t (if S 4 t = 0 then 1 else 0)) 5 t (S 5 t + 1)
def evM (t : Nat) (S : St) : St := up (up S 6 t (S 6 t + ((S 30 0 >>> (nI t &&& 31)) &&& 1))) 30 0 (S 30 0 ||| ((1 : Int32) <<< (nI t &&& 31)))
def evS (k : Int32) (t : Nat) (S : St) : St := if evE k t S = 0 then evC k t S else evM t (evC k t S)
def tmE (k : Int32) (t : Nat) (e : Int32) (S : St) : Int32 := if S 2 t = 0 then evE k t S else if e = 0 then 0 else evE 1 t S
def tmS (k : Int32) (t : Nat) (e : Int32) (S : St) : St := if S 2 t = 0 then evS k t S else if e = 0 then S else evS 1 t S
def tm (k : Int32) : Nat → Nat → Int32 → St → St
  | 0, _, _, S => S
  | n + 1, t, e, S => tm k n (t + 1) (tmE k t e S) (tmS k t e S)
def lbF : Nat → Nat → Int32 → Nat
  | 0, b, _ => b
  | n + 1, b, v => if v &&& ((1 : Int32) <<< (nI b &&& 31)) = 0 then lbF n (b + 1) v else b
def lb (v : Int32) : Nat := lbF 8 0 v
/-- the book's next place -/
def bk (S : St) : Nat := (S 32 0).toNatClampNeg % 16
def svA (g b : Nat) (S : St) : St := up (up (up (up S 30 0 (S 30 0 &&& (((1 : Int32) <<< (nI b &&& 31)) ^^^ (-1)))) 7 b (S 7 b + 1)) 13 g (S 13 g + 1)) 15 g (S 31 0)
def svB (g b k : Nat) (S : St) : St := up (up (up (up S 20 k (nI b)) 21 k (nI g)) 22 k (S 31 0)) 32 0 (S 32 0 + 1)
def svS (g : Nat) (S : St) : St := if S 30 0 &&& S 10 g = 0 then up S 14 g (S 14 g + 1) else svB g (lb (S 30 0 &&& S 10 g)) (bk S) (svA g (lb (S 30 0 &&& S 10 g)) S)
def gtS (k : Int32) (g : Nat) (S : St) : St := if 0 < S 12 g then (if S 12 g - k = 0 then svS g (up S 12 g (S 12 g - k)) else up S 12 g (S 12 g - k)) else S
def gt (k : Int32) : Nat → Nat → St → St
  | 0, _, S => S
  | n + 1, g, S => gt k n (g + 1) (gtS k g S)
def wtS (g : Nat) (S : St) : St := if S 12 g = 0 then (if S 30 0 &&& S 10 g = 0 then S else up S 12 g (S 11 g)) else S
def wt : Nat → Nat → St → St
  | 0, _, S => S
  | n + 1, g, S => wt n (g + 1) (wtS g S)
def passS (k : Int32) (S : St) : St := wt 4 0 (gt k 4 0 (tm k 8 0 0 (up S 31 0 (S 31 0 + k))))
def tick (S : St) : St := passS 1 S
def tickN : Nat → St → St
  | 0, S => S
  | n + 1, S => tickN n (tick S)
/-- until a bit is served, at most n ticks: how many, and the state -/
def nx : Nat → St → Nat × St
  | 0, S => (0, S)
  | n + 1, S => if (tick S) 32 0 = S 32 0 then ((nx n (tick S)).1 + 1, (nx n (tick S)).2) else (1, tick S)
/-- clear: the first n of the counts of cleared bits -/
def clr (are : Int32) (n : Nat) (S : St) : St := fun a => if a = 8 then (fun t => if t < n then S 8 t + ((are >>> (nI t &&& 31)) &&& 1) else S 8 t) else S a
def clearS (m : Int32) (S : St) : St := up (clr (S 30 0 &&& m) 8 S) 30 0 (S 30 0 &&& (m ^^^ (-1)))
def setS (t : Nat) (s p o : Int32) (S : St) : St := up (up (up (up (up S 2 t s) 0 t p) 1 t p) 4 t o) 3 t 0
abbrev okT (t : Int32) : Prop := ¬ t < 0 ∧ ¬ 8 ≤ t
abbrev okG (g : Int32) : Prop := ¬ g < 0 ∧ ¬ 4 ≤ g
abbrev okSet (t s p : Int32) : Prop := okT t ∧ ¬ s < 0 ∧ (¬ (if t = 0 then 0 else 1) < s) ∧ ¬ p < 1 ∧ p ≤ 65535
abbrev okGate (g m d : Int32) : Prop := okG g ∧ ¬ m < 0 ∧ ¬ 255 < m ∧ ¬ d < 1 ∧ d ≤ 1000
abbrev okM (m : Int32) : Prop := ¬ m < 0 ∧ m ≤ 255
abbrev okN (n : Int32) : Prop := ¬ n < 0 ∧ n ≤ 20000
theorem okT_j {t : Int32} (h : okT t) : ∃ j : Nat, j < 8 ∧ t = nI j := by
  rcases pk_ix t (n := 8) (by decide) with h1 | h1 | h1
  · exact absurd h1 h.1
  · exact absurd h1 h.2
  · exact h1
theorem okG_j {t : Int32} (h : okG t) : ∃ j : Nat, j < 4 ∧ t = nI j := by
  rcases pk_ix t (n := 4) (by decide) with h1 | h1 | h1
  · exact absurd h1 h.1
  · exact absurd h1 h.2
  · exact h1
theorem okT_of {j : Nat} (h : j < 8) : okT (nI j) := ⟨nI_pos (by omega), nI_ge (b := 8) h (by decide)⟩
theorem okG_of {j : Nat} (h : j < 4) : okG (nI j) := ⟨nI_pos (by omega), nI_ge (b := 4) h (by decide)⟩
/-- what the component's own state keeps: values by their fields -/
def okv (f : Nat) (v : Int32) : Prop := match f with
  | 0 => 1 ≤ v.toInt ∧ v.toInt ≤ 65535
  | 1 => 1 ≤ v.toInt ∧ v.toInt ≤ 65535
  | 3 => Bz v
  | 4 => Bz v
  | 10 => ∃ n : Nat, n < 256 ∧ v = nI n
  | 11 => 1 ≤ v.toInt ∧ v.toInt ≤ 1000
  | 12 => 0 ≤ v.toInt ∧ v.toInt ≤ 1000
  | _ => True
def Inv (S : St) : Prop := ∀ f i, okv f (S f i)
def Bnd (B : Nat) (S : St) : Prop := ∃ n : Nat, n ≤ B ∧ S 32 0 = nI n
theorem Inv.up {S : St} {f i : Nat} {v : Int32} (h : Inv S) (hv : okv f v) : Inv (up S f i v) := by
  intro a j
  by_cases e : a = f
  · subst e
    by_cases e2 : j = i
    · subst e2; rw [up_si]; exact hv
    · rw [up_sn e2]; exact h a j
  · rw [up_f e]; exact h a j
/-! ===== what each public method answers and does: relations, the same for both sides ===== -/
def PSet (S : St) (t s p o r : Int32) (S' : St) : Prop := (∃ j : Nat, j < 8 ∧ t = nI j ∧ okSet t s p ∧ r = 1 ∧ S' = setS j s p o S) ∨ (¬ okSet t s p ∧ r = 0 ∧ S' = S)
def PTurn (S : St) (t on r : Int32) (S' : St) : Prop := (∃ j : Nat, j < 8 ∧ t = nI j ∧ ¬ S 3 j = on ∧ r = 1 ∧ S' = up S 3 j on) ∨ ((∀ j : Nat, j < 8 → t = nI j → S 3 j = on) ∧ r = 0 ∧ S' = S)
def PGate (S : St) (g m d r : Int32) (S' : St) : Prop := (∃ j : Nat, j < 4 ∧ g = nI j ∧ okGate g m d ∧ r = 1 ∧ S' = up (up S 10 j m) 11 j d) ∨ (¬ okGate g m d ∧ r = 0 ∧ S' = S)
def PClear (S : St) (m r : Int32) (S' : St) : Prop := (okM m ∧ r = S 30 0 &&& m ∧ S' = clearS m S) ∨ (¬ okM m ∧ r = -1 ∧ S' = S)
def PAdv (S : St) (n r : Int32) (S' : St) : Prop := (∃ k : Nat, k ≤ 20000 ∧ n = nI k ∧ S' = tickN k S ∧ r = S' 32 0 - S 32 0) ∨ (¬ okN n ∧ r = -1 ∧ S' = S)
def PNext (S : St) (n r : Int32) (S' : St) : Prop := (∃ k : Nat, k ≤ 20000 ∧ n = nI k ∧ S' = (nx k S).2 ∧ r = nI (nx k S).1) ∨ (¬ okN n ∧ r = -1 ∧ S' = S)
def timR (S : St) (j : Nat) (w : Int32) : Int32 := if w = 0 then S 1 j else if w = 1 then S 0 j else if w = 2 then S 2 j else if w = 3 then S 3 j else if w = 4 then S 4 j else if w = 5 then S 5 j else if w = 6 then S 6 j else if w = 7 then S 7 j else if w = 8 then S 8 j else -1
def PTimer (S : St) (t w r : Int32) : Prop := (∃ j : Nat, j < 8 ∧ t = nI j ∧ r = timR S j w) ∨ (¬ okT t ∧ r = -1)
def gatR (S : St) (j : Nat) (w : Int32) : Int32 := if w = 0 then (if S 30 0 &&& S 10 j = 0 then 0 else 1) else if w = 1 then S 12 j else if w = 2 then S 10 j else if w = 3 then S 11 j else if w = 4 then S 13 j else if w = 5 then S 14 j else if w = 6 then S 15 j else -1
def PGateOf (S : St) (g w r : Int32) : Prop := (∃ j : Nat, j < 4 ∧ g = nI j ∧ r = gatR S j w) ∨ (¬ okG g ∧ r = -1)
def act (S : St) (t : Nat) : Prop := ¬ S 3 t = 0 ∧ S 2 t = 0
def PLeast (S : St) (r : Int32) : Prop := ((∀ t : Nat, t < 8 → ¬ act S t) ∧ r = 0) ∨ ((∃ t : Nat, t < 8 ∧ act S t ∧ r = S 1 t) ∧ ∀ t : Nat, t < 8 → act S t → r ≤ S 1 t)
def PLook (S : St) (w r : Int32) : Prop := (w = 0 ∧ r = S 30 0) ∨ (w = 1 ∧ r = S 31 0) ∨ (w = 2 ∧ r = S 32 0) ∨ (w = 3 ∧ PLeast S r) ∨ (¬ w = 0 ∧ ¬ w = 1 ∧ ¬ w = 2 ∧ ¬ w = 3 ∧ r = -1)
def PServed (S : St) (i w r : Int32) : Prop := (∃ n a b : Nat, n < 2 ^ 31 ∧ S 32 0 = nI n ∧ i = nI a ∧ a < 16 ∧ a < n ∧ w = nI b ∧ b < 3 ∧ r = S (20 + b) ((n - 1 - a) % 16)) ∨ ((¬ (¬ i < 0 ∧ i < 16 ∧ i < S 32 0) ∨ (¬ w = 0 ∧ ¬ w = 1 ∧ ¬ w = 2)) ∧ r = -1)
theorem sw_4 (w : Int32) : (w = 0 ∨ w = 1 ∨ w = 2 ∨ w = 3) ∨ (w.toInt < 0 ∨ 3 < w.toInt) := by
  rcases pk_ix w (n := 4) (by decide) with h | h | ⟨j, hj, rfl⟩
  · exact Or.inr (Or.inl (by simpa [Int32.lt_iff_toInt_lt] using h))
  · refine Or.inr (Or.inr ?_)
    rw [Int32.le_iff_toInt_le, nI_toInt (by decide)] at h
    omega
  · rcases (show j = 0 ∨ j = 1 ∨ j = 2 ∨ j = 3 by omega) with rfl | rfl | rfl | rfl
    · exact Or.inl (Or.inl rfl)
    · exact Or.inl (Or.inr (Or.inl rfl))
    · exact Or.inl (Or.inr (Or.inr (Or.inl rfl)))
    · exact Or.inl (Or.inr (Or.inr (Or.inr rfl)))
theorem sw_7 (w : Int32) : (w = 0 ∨ w = 1 ∨ w = 2 ∨ w = 3 ∨ w = 4 ∨ w = 5 ∨ w = 6) ∨ (w.toInt < 0 ∨ 6 < w.toInt) := by
  rcases pk_ix w (n := 7) (by decide) with h | h | ⟨j, hj, rfl⟩
  · exact Or.inr (Or.inl (by simpa [Int32.lt_iff_toInt_lt] using h))
  · refine Or.inr (Or.inr ?_)
    rw [Int32.le_iff_toInt_le, nI_toInt (by decide)] at h
    omega
  · refine Or.inl ?_
    revert j
    decide +kernel
theorem sw_9 (w : Int32) : (w = 0 ∨ w = 1 ∨ w = 2 ∨ w = 3 ∨ w = 4 ∨ w = 5 ∨ w = 6 ∨ w = 7 ∨ w = 8) ∨ (w.toInt < 0 ∨ 8 < w.toInt) := by
  rcases pk_ix w (n := 9) (by decide) with h | h | ⟨j, hj, rfl⟩
  · exact Or.inr (Or.inl (by simpa [Int32.lt_iff_toInt_lt] using h))
  · refine Or.inr (Or.inr ?_)
    rw [Int32.le_iff_toInt_le, nI_toInt (by decide)] at h
    omega
  · refine Or.inl ?_
    revert j
    decide +kernel
theorem sw_10 (w : Int32) : (w = 0 ∨ w = 1 ∨ w = 2 ∨ w = 3 ∨ w = 4 ∨ w = 5 ∨ w = 6 ∨ w = 7 ∨ w = 8 ∨ w = 9) ∨ (w.toInt < 0 ∨ 9 < w.toInt) := by
  rcases pk_ix w (n := 10) (by decide) with h | h | ⟨j, hj, rfl⟩
  · exact Or.inr (Or.inl (by simpa [Int32.lt_iff_toInt_lt] using h))
  · refine Or.inr (Or.inr ?_)
    rw [Int32.le_iff_toInt_le, nI_toInt (by decide)] at h
    omega
  · refine Or.inl ?_
    revert j
    decide +kernel
theorem ne_of_out {w : Int32} {n : Int} (h : w.toInt < 0 ∨ n < w.toInt) {v : Int32} (h0 : 0 ≤ v.toInt) (h1 : v.toInt ≤ n) : ¬ w = v := by
  intro e
  subst e
  omega
end
section
def rz : Room := { frames := 0, cells := 0, slots := 0, locals := 0 }
set_option maxHeartbeats 4000000 in
set_option maxRecDepth 100000 in
theorem c_TG_isTimer (l : Launch) (G : Gid) (ws : va_W) (t : Int32) : CtI l y_TG_isTimer b_TG_isTimer 1 (some .boolean) rz G [.int t] ws 0 0 (fun r w => w = ws ∧ ((okT t ∧ r = 1) ∨ (¬ okT t ∧ r = 0))) := by
  refine CtI.of (own := R_TG) (L := [some (.int t)]) (by decide) rfl rfl (Nat.le_of_ble_eq_true rfl) rfl (fun x X => ?_)
  refine j_iload_n X d_TG_isTimer_0 rfl ?_
  refine j_if_lt (tgt := 14) X d_TG_isTimer_1 (by decide) (fun h1 => ?_) (fun h1 => ?_)
  · refine j_iconst (v := 0) X d_TG_isTimer_14 (by decide) ?_
    exact j_zret X (Or.inl rfl) ⟨rfl, Or.inr ⟨fun h => h.1 h1, rfl⟩⟩ d_TG_isTimer_15
  · refine j_iload_n X d_TG_isTimer_4 rfl ?_
    refine j_bipush (v := 8) X d_TG_isTimer_5 (by decide) ?_
    refine j_icmp_ge (tgt := 14) X d_TG_isTimer_7 (by decide) (fun h2 => ?_) (fun h2 => ?_)
    · refine j_iconst (v := 0) X d_TG_isTimer_14 (by decide) ?_
      exact j_zret X (Or.inl rfl) ⟨rfl, Or.inr ⟨fun h => h.2 h2, rfl⟩⟩ d_TG_isTimer_15
    · refine j_iconst (v := 1) X d_TG_isTimer_10 (by decide) ?_
      refine j_goto (tgt := 15) X d_TG_isTimer_11 (by decide) ?_
      exact j_zret X (Or.inr rfl) ⟨rfl, Or.inl ⟨⟨h1, h2⟩, rfl⟩⟩ d_TG_isTimer_15
set_option maxHeartbeats 4000000 in
set_option maxRecDepth 100000 in
theorem c_TG_isGate (l : Launch) (G : Gid) (ws : va_W) (t : Int32) : CtI l y_TG_isGate b_TG_isGate 1 (some .boolean) rz G [.int t] ws 0 0 (fun r w => w = ws ∧ ((okG t ∧ r = 1) ∨ (¬ okG t ∧ r = 0))) := by
  refine CtI.of (own := R_TG) (L := [some (.int t)]) (by decide) rfl rfl (Nat.le_of_ble_eq_true rfl) rfl (fun x X => ?_)
  refine j_iload_n X d_TG_isGate_0 rfl ?_
  refine j_if_lt (tgt := 13) X d_TG_isGate_1 (by decide) (fun h1 => ?_) (fun h1 => ?_)
  · refine j_iconst (v := 0) X d_TG_isGate_13 (by decide) ?_
    exact j_zret X (Or.inl rfl) ⟨rfl, Or.inr ⟨fun h => h.1 h1, rfl⟩⟩ d_TG_isGate_14
  · refine j_iload_n X d_TG_isGate_4 rfl ?_
    refine j_iconst (v := 4) X d_TG_isGate_5 (by decide) ?_
    refine j_icmp_ge (tgt := 13) X d_TG_isGate_6 (by decide) (fun h2 => ?_) (fun h2 => ?_)
    · refine j_iconst (v := 0) X d_TG_isGate_13 (by decide) ?_
      exact j_zret X (Or.inl rfl) ⟨rfl, Or.inr ⟨fun h => h.2 h2, rfl⟩⟩ d_TG_isGate_14
    · refine j_iconst (v := 1) X d_TG_isGate_9 (by decide) ?_
      refine j_goto (tgt := 14) X d_TG_isGate_10 (by decide) ?_
      exact j_zret X (Or.inr rfl) ⟨rfl, Or.inl ⟨⟨h1, h2⟩, rfl⟩⟩ d_TG_isGate_14
end
section
def r1 : Room := { frames := 1, cells := 0, slots := 0, locals := 32 }
set_option maxHeartbeats 4000000 in
set_option maxRecDepth 100000 in
theorem c_TG_asks (l : Launch) (G : Gid) (ad : Nat → Nat) (S : St) (g : Nat) (hg : g < 4) : CtI l y_TG_asks b_TG_asks 2 (some .boolean) rz G [.ref (ad 0), .ref (ad (15 + g))] (wX G ad S) 0 0 (fun r w => w = wX G ad S ∧ r = (if S 30 0 &&& S 10 g = 0 then 0 else 1)) := by
  refine CtI.of (own := R_TG) (L := [some (.ref (ad 0)), some (.ref (ad (15 + g)))]) (by decide) rfl rfl (Nat.le_of_ble_eq_true rfl) rfl (fun x X => ?_)
  refine j_aload_n X d_TG_asks_0 rfl ?_
  refine j_get X i_TG 0 rfl rfl 3 (by decide) fl_TG_61 rfl d_TG_asks_1 ?_
  refine j_aload_n X d_TG_asks_4 rfl ?_
  refine j_getN X i_Gt (15 + g) (wX_G hg) rfl 0 (by decide) fl_TG_55 rfl d_TG_asks_5 ?_
  refine j_iand X d_TG_asks_8 ?_
  refine j_if_eq (tgt := 16) X d_TG_asks_9 (by decide) (fun h1 => ?_) (fun h1 => ?_)
  · refine j_iconst (v := 0) X d_TG_asks_16 (by decide) ?_
    exact j_zret X (Or.inl rfl) ⟨rfl, (if_pos h1).symm⟩ d_TG_asks_17
  · refine j_iconst (v := 1) X d_TG_asks_12 (by decide) ?_
    refine j_goto (tgt := 17) X d_TG_asks_13 (by decide) ?_
    exact j_zret X (Or.inr rfl) ⟨rfl, (if_neg h1).symm⟩ d_TG_asks_17
set_option maxHeartbeats 4000000 in
set_option maxRecDepth 100000 in
theorem c_TG_set (l : Launch) (G : Gid) (ad : Nat → Nat) (S : St) (t s p o : Int32) (ho : Bz o) : CtI l y_TG_set b_TG_set 6 (some .boolean) r1 G [.ref (ad 0), .int t, .int s, .int p, .int o] (wX G ad S) 0 0 (fun r w => ∃ S1, PSet S t s p o r S1 ∧ w = wX G ad S1) := by
  refine CtI.of (own := R_TG) (L := [some (.ref (ad 0)), some (.int t), some (.int s), some (.int p), some (.int o), none]) (by decide) rfl rfl (Nat.le_of_ble_eq_true rfl) rfl (fun x X => ?_)
  refine j_iload_n X d_TG_set_0 rfl ?_
  refine j_callSi0 X [.int t] [] (c_TG_isTimer _ _ _ t) ok_TG_30 rfl (Nat.le_of_ble_eq_true rfl) ⟨Nat.le_of_ble_eq_true rfl, Nat.le_of_ble_eq_true rfl⟩ ⟨rfl, rfl⟩ rfl ⟨Nat.le_of_ble_eq_true rfl, Nat.le_of_ble_eq_true rfl⟩ d_TG_set_1 (fun r w1 hw => ?_)
  obtain ⟨rfl, hw⟩ := hw
  rcases hw with ⟨h1, rfl⟩ | ⟨h1, rfl⟩
  · obtain ⟨j, hj, rfl⟩ := okT_j h1
    refine j_if_eq (tgt := 35) X d_TG_set_4 (by decide) (fun h => absurd h (by decide)) (fun _ => ?_)
    refine j_iload_n X d_TG_set_7 rfl ?_
    refine j_if_lt (tgt := 35) X d_TG_set_8 (by decide) (fun h2 => ?_) (fun h2 => ?_)
    · refine j_iconst (v := 0) X d_TG_set_35 (by decide) ?_
      exact j_zret X (Or.inl rfl) ⟨S, Or.inr ⟨fun h => h.2.1 h2, rfl, rfl⟩, rfl⟩ d_TG_set_36
    · refine j_iload_n X d_TG_set_11 rfl ?_
      refine j_iload_n X d_TG_set_12 rfl ?_
      refine j_if_ne (tgt := 20) X d_TG_set_13 (by decide) (fun h3 => ?_) (fun h3 => ?_)
      · refine j_iconst (v := 1) X d_TG_set_20 (by decide) ?_
        refine j_icmp_gt (tgt := 35) X d_TG_set_21 (by decide) (fun h4 => ?_) (fun h4 => ?_)
        · refine j_iconst (v := 0) X d_TG_set_35 (by decide) ?_
          exact j_zret X (Or.inl rfl) ⟨S, Or.inr ⟨fun h => h.2.2.1 (by rw [if_neg h3]; exact h4), rfl, rfl⟩, rfl⟩ d_TG_set_36
        · refine j_iload_n X d_TG_set_24 rfl ?_
          refine j_iconst (v := 1) X d_TG_set_25 (by decide) ?_
          refine j_icmp_lt (tgt := 35) X d_TG_set_26 (by decide) (fun h5 => ?_) (fun h5 => ?_)
          · refine j_iconst (v := 0) X d_TG_set_35 (by decide) ?_
            exact j_zret X (Or.inl rfl) ⟨S, Or.inr ⟨fun h => h.2.2.2.1 h5, rfl, rfl⟩, rfl⟩ d_TG_set_36
          · refine j_iload_n X d_TG_set_29 rfl ?_
            refine j_ldc X cst_TG_34 d_TG_set_30 ?_
            refine j_icmp_le (tgt := 37) X d_TG_set_32 (by decide) (fun h6 => ?_) (fun h6 => ?_)
            · refine j_aload_n X d_TG_set_37 rfl ?_
              refine j_get X i_TG 0 rfl rfl 0 (by decide) fl_TG_11 rfl d_TG_set_38 ?_
              refine j_iload_n X d_TG_set_41 rfl ?_
              refine j_aaldTN X 1 rfl hj (by decide) rfl d_TG_set_42 ?_
              refine j_astore X d_TG_set_43 (Nat.le_of_ble_eq_true rfl) ?_
              refine j_aload X d_TG_set_45 rfl ?_
              refine j_iload_n X d_TG_set_47 rfl ?_
              refine j_putN X i_Tm t_Tm t_Tm_ok n_Tm (7 + j) (wX_T hj) rfl 2 (by decide) fl_TG_35 rfl rfl rfl rfl (Nat.le_of_ble_eq_true rfl) d_TG_set_48 ?_
              refine j_eqw (wX_setT hj (by decide)) ?_
              refine j_aload X d_TG_set_51 rfl ?_
              refine j_iload_n X d_TG_set_53 rfl ?_
              refine j_putN X i_Tm t_Tm t_Tm_ok n_Tm (7 + j) (wX_T hj) rfl 0 (by decide) fl_TG_39 rfl rfl rfl rfl (Nat.le_of_ble_eq_true rfl) d_TG_set_54 ?_
              refine j_eqw (wX_setT hj (by decide)) ?_
              refine j_aload X d_TG_set_57 rfl ?_
              refine j_iload_n X d_TG_set_59 rfl ?_
              refine j_putN X i_Tm t_Tm t_Tm_ok n_Tm (7 + j) (wX_T hj) rfl 1 (by decide) fl_TG_42 rfl rfl rfl rfl (Nat.le_of_ble_eq_true rfl) d_TG_set_60 ?_
              refine j_eqw (wX_setT hj (by decide)) ?_
              refine j_aload X d_TG_set_63 rfl ?_
              refine j_iload X d_TG_set_65 rfl ?_
              refine j_putN X i_Tm t_Tm t_Tm_ok n_Tm (7 + j) (wX_T hj) rfl 4 (by decide) fl_TG_45 rfl rfl (nz ho) (fz ho) (Nat.le_of_ble_eq_true rfl) d_TG_set_67 ?_
              refine j_eqw (wX_setT hj (by decide)) ?_
              refine j_aload X d_TG_set_70 rfl ?_
              refine j_iconst (v := 0) X d_TG_set_72 (by decide) ?_
              refine j_putN X i_Tm t_Tm t_Tm_ok n_Tm (7 + j) (wX_T hj) rfl 3 (by decide) fl_TG_49 rfl rfl (nz (Or.inl rfl)) (fz (Or.inl rfl)) (Nat.le_of_ble_eq_true rfl) d_TG_set_73 ?_
              refine j_eqw (wX_setT hj (by decide)) ?_
              refine j_iconst (v := 1) X d_TG_set_76 (by decide) ?_
              exact j_zret X (Or.inr rfl) ⟨_, Or.inl ⟨j, hj, rfl, ⟨h1, h2, by rw [if_neg h3]; exact h4, h5, h6⟩, rfl, rfl⟩, rfl⟩ d_TG_set_77
            · refine j_iconst (v := 0) X d_TG_set_35 (by decide) ?_
              exact j_zret X (Or.inl rfl) ⟨S, Or.inr ⟨fun h => h6 h.2.2.2.2, rfl, rfl⟩, rfl⟩ d_TG_set_36
      · refine j_iconst (v := 0) X d_TG_set_16 (by decide) ?_
        refine j_goto (tgt := 21) X d_TG_set_17 (by decide) ?_
        refine j_icmp_gt (tgt := 35) X d_TG_set_21 (by decide) (fun h4 => ?_) (fun h4 => ?_)
        · refine j_iconst (v := 0) X d_TG_set_35 (by decide) ?_
          exact j_zret X (Or.inl rfl) ⟨S, Or.inr ⟨fun h => h.2.2.1 (by rw [if_pos h3]; exact h4), rfl, rfl⟩, rfl⟩ d_TG_set_36
        · refine j_iload_n X d_TG_set_24 rfl ?_
          refine j_iconst (v := 1) X d_TG_set_25 (by decide) ?_
          refine j_icmp_lt (tgt := 35) X d_TG_set_26 (by decide) (fun h5 => ?_) (fun h5 => ?_)
          · refine j_iconst (v := 0) X d_TG_set_35 (by decide) ?_
            exact j_zret X (Or.inl rfl) ⟨S, Or.inr ⟨fun h => h.2.2.2.1 h5, rfl, rfl⟩, rfl⟩ d_TG_set_36
          · refine j_iload_n X d_TG_set_29 rfl ?_
            refine j_ldc X cst_TG_34 d_TG_set_30 ?_
            refine j_icmp_le (tgt := 37) X d_TG_set_32 (by decide) (fun h6 => ?_) (fun h6 => ?_)
            · refine j_aload_n X d_TG_set_37 rfl ?_
              refine j_get X i_TG 0 rfl rfl 0 (by decide) fl_TG_11 rfl d_TG_set_38 ?_
              refine j_iload_n X d_TG_set_41 rfl ?_
              refine j_aaldTN X 1 rfl hj (by decide) rfl d_TG_set_42 ?_
              refine j_astore X d_TG_set_43 (Nat.le_of_ble_eq_true rfl) ?_
              refine j_aload X d_TG_set_45 rfl ?_
              refine j_iload_n X d_TG_set_47 rfl ?_
              refine j_putN X i_Tm t_Tm t_Tm_ok n_Tm (7 + j) (wX_T hj) rfl 2 (by decide) fl_TG_35 rfl rfl rfl rfl (Nat.le_of_ble_eq_true rfl) d_TG_set_48 ?_
              refine j_eqw (wX_setT hj (by decide)) ?_
              refine j_aload X d_TG_set_51 rfl ?_
              refine j_iload_n X d_TG_set_53 rfl ?_
              refine j_putN X i_Tm t_Tm t_Tm_ok n_Tm (7 + j) (wX_T hj) rfl 0 (by decide) fl_TG_39 rfl rfl rfl rfl (Nat.le_of_ble_eq_true rfl) d_TG_set_54 ?_
              refine j_eqw (wX_setT hj (by decide)) ?_
              refine j_aload X d_TG_set_57 rfl ?_
              refine j_iload_n X d_TG_set_59 rfl ?_
              refine j_putN X i_Tm t_Tm t_Tm_ok n_Tm (7 + j) (wX_T hj) rfl 1 (by decide) fl_TG_42 rfl rfl rfl rfl (Nat.le_of_ble_eq_true rfl) d_TG_set_60 ?_
              refine j_eqw (wX_setT hj (by decide)) ?_
              refine j_aload X d_TG_set_63 rfl ?_
              refine j_iload X d_TG_set_65 rfl ?_
              refine j_putN X i_Tm t_Tm t_Tm_ok n_Tm (7 + j) (wX_T hj) rfl 4 (by decide) fl_TG_45 rfl rfl (nz ho) (fz ho) (Nat.le_of_ble_eq_true rfl) d_TG_set_67 ?_
              refine j_eqw (wX_setT hj (by decide)) ?_
              refine j_aload X d_TG_set_70 rfl ?_
              refine j_iconst (v := 0) X d_TG_set_72 (by decide) ?_
              refine j_putN X i_Tm t_Tm t_Tm_ok n_Tm (7 + j) (wX_T hj) rfl 3 (by decide) fl_TG_49 rfl rfl (nz (Or.inl rfl)) (fz (Or.inl rfl)) (Nat.le_of_ble_eq_true rfl) d_TG_set_73 ?_
              refine j_eqw (wX_setT hj (by decide)) ?_
              refine j_iconst (v := 1) X d_TG_set_76 (by decide) ?_
              exact j_zret X (Or.inr rfl) ⟨_, Or.inl ⟨j, hj, rfl, ⟨h1, h2, by rw [if_pos h3]; exact h4, h5, h6⟩, rfl, rfl⟩, rfl⟩ d_TG_set_77
            · refine j_iconst (v := 0) X d_TG_set_35 (by decide) ?_
              exact j_zret X (Or.inl rfl) ⟨S, Or.inr ⟨fun h => h6 h.2.2.2.2, rfl, rfl⟩, rfl⟩ d_TG_set_36
  · refine j_if_eq (tgt := 35) X d_TG_set_4 (by decide) (fun _ => ?_) (fun h => absurd (rfl) h)
    refine j_iconst (v := 0) X d_TG_set_35 (by decide) ?_
    exact j_zret X (Or.inl rfl) ⟨S, Or.inr ⟨fun h => h1 h.1, rfl, rfl⟩, rfl⟩ d_TG_set_36
set_option maxHeartbeats 4000000 in
set_option maxRecDepth 100000 in
theorem c_TG_turn (l : Launch) (G : Gid) (ad : Nat → Nat) (S : St) (t on : Int32) (ho : Bz on) : CtI l y_TG_turn b_TG_turn 3 (some .boolean) r1 G [.ref (ad 0), .int t, .int on] (wX G ad S) 0 0 (fun r w => ∃ S1, PTurn S t on r S1 ∧ w = wX G ad S1) := by
  refine CtI.of (own := R_TG) (L := [some (.ref (ad 0)), some (.int t), some (.int on)]) (by decide) rfl rfl (Nat.le_of_ble_eq_true rfl) rfl (fun x X => ?_)
  refine j_iload_n X d_TG_turn_0 rfl ?_
  refine j_callSi0 X [.int t] [] (c_TG_isTimer _ _ _ t) ok_TG_30 rfl (Nat.le_of_ble_eq_true rfl) ⟨Nat.le_of_ble_eq_true rfl, Nat.le_of_ble_eq_true rfl⟩ ⟨rfl, rfl⟩ rfl ⟨Nat.le_of_ble_eq_true rfl, Nat.le_of_ble_eq_true rfl⟩ d_TG_turn_1 (fun r w1 hw => ?_)
  obtain ⟨rfl, hw⟩ := hw
  rcases hw with ⟨h1, rfl⟩ | ⟨h1, rfl⟩
  · obtain ⟨j, hj, rfl⟩ := okT_j h1
    refine j_if_eq (tgt := 20) X d_TG_turn_4 (by decide) (fun h => absurd h (by decide)) (fun _ => ?_)
    refine j_aload_n X d_TG_turn_7 rfl ?_
    refine j_get X i_TG 0 rfl rfl 0 (by decide) fl_TG_11 rfl d_TG_turn_8 ?_
    refine j_iload_n X d_TG_turn_11 rfl ?_
    refine j_aaldTN X 1 rfl hj (by decide) rfl d_TG_turn_12 ?_
    refine j_getN X i_Tm (7 + j) (wX_T hj) rfl 3 (by decide) fl_TG_49 rfl d_TG_turn_13 ?_
    refine j_iload_n X d_TG_turn_16 rfl ?_
    refine j_icmp_ne (tgt := 22) X d_TG_turn_17 (by decide) (fun h2 => ?_) (fun h2 => ?_)
    · refine j_aload_n X d_TG_turn_22 rfl ?_
      refine j_get X i_TG 0 rfl rfl 0 (by decide) fl_TG_11 rfl d_TG_turn_23 ?_
      refine j_iload_n X d_TG_turn_26 rfl ?_
      refine j_aaldTN X 1 rfl hj (by decide) rfl d_TG_turn_27 ?_
      refine j_iload_n X d_TG_turn_28 rfl ?_
      refine j_putN X i_Tm t_Tm t_Tm_ok n_Tm (7 + j) (wX_T hj) rfl 3 (by decide) fl_TG_49 rfl rfl (nz ho) (fz ho) (Nat.le_of_ble_eq_true rfl) d_TG_turn_29 ?_
      refine j_eqw (wX_setT hj (by decide)) ?_
      refine j_iconst (v := 1) X d_TG_turn_32 (by decide) ?_
      exact j_zret X (Or.inr rfl) ⟨_, Or.inl ⟨j, hj, rfl, h2, rfl, rfl⟩, rfl⟩ d_TG_turn_33
    · refine j_iconst (v := 0) X d_TG_turn_20 (by decide) ?_
      exact j_zret X (Or.inl rfl) ⟨S, Or.inr ⟨fun i hi e => by rw [← (nI_eq (by omega) (by omega)).mp e]; exact h2, rfl, rfl⟩, rfl⟩ d_TG_turn_21
  · refine j_if_eq (tgt := 20) X d_TG_turn_4 (by decide) (fun _ => ?_) (fun h => absurd (rfl) h)
    refine j_iconst (v := 0) X d_TG_turn_20 (by decide) ?_
    exact j_zret X (Or.inl rfl) ⟨S, Or.inr ⟨fun i hi e => absurd (by rw [e]; exact okT_of hi) h1, rfl, rfl⟩, rfl⟩ d_TG_turn_21
set_option maxHeartbeats 4000000 in
set_option maxRecDepth 100000 in
theorem c_TG_gate (l : Launch) (G : Gid) (ad : Nat → Nat) (S : St) (g m d : Int32) : CtI l y_TG_gate b_TG_gate 4 (some .boolean) r1 G [.ref (ad 0), .int g, .int m, .int d] (wX G ad S) 0 0 (fun r w => ∃ S1, PGate S g m d r S1 ∧ w = wX G ad S1) := by
  refine CtI.of (own := R_TG) (L := [some (.ref (ad 0)), some (.int g), some (.int m), some (.int d)]) (by decide) rfl rfl (Nat.le_of_ble_eq_true rfl) rfl (fun x X => ?_)
  refine j_iload_n X d_TG_gate_0 rfl ?_
  refine j_callSi0 X [.int g] [] (c_TG_isGate _ _ _ g) ok_TG_52 rfl (Nat.le_of_ble_eq_true rfl) ⟨Nat.le_of_ble_eq_true rfl, Nat.le_of_ble_eq_true rfl⟩ ⟨rfl, rfl⟩ rfl ⟨Nat.le_of_ble_eq_true rfl, Nat.le_of_ble_eq_true rfl⟩ d_TG_gate_1 (fun r w1 hw => ?_)
  obtain ⟨rfl, hw⟩ := hw
  rcases hw with ⟨h1, rfl⟩ | ⟨h1, rfl⟩
  · obtain ⟨j, hj, rfl⟩ := okG_j h1
    refine j_if_eq (tgt := 30) X d_TG_gate_4 (by decide) (fun h => absurd h (by decide)) (fun _ => ?_)
    refine j_iload_n X d_TG_gate_7 rfl ?_
    refine j_if_lt (tgt := 30) X d_TG_gate_8 (by decide) (fun h2 => ?_) (fun h2 => ?_)
    · refine j_iconst (v := 0) X d_TG_gate_30 (by decide) ?_
      exact j_zret X (Or.inl rfl) ⟨S, Or.inr ⟨fun h => h.2.1 h2, rfl, rfl⟩, rfl⟩ d_TG_gate_31
    · refine j_iload_n X d_TG_gate_11 rfl ?_
      refine j_sipush (v := 255) X d_TG_gate_12 (by decide) ?_
      refine j_icmp_gt (tgt := 30) X d_TG_gate_15 (by decide) (fun h3 => ?_) (fun h3 => ?_)
      · refine j_iconst (v := 0) X d_TG_gate_30 (by decide) ?_
        exact j_zret X (Or.inl rfl) ⟨S, Or.inr ⟨fun h => h.2.2.1 h3, rfl, rfl⟩, rfl⟩ d_TG_gate_31
      · refine j_iload_n X d_TG_gate_18 rfl ?_
        refine j_iconst (v := 1) X d_TG_gate_19 (by decide) ?_
        refine j_icmp_lt (tgt := 30) X d_TG_gate_20 (by decide) (fun h4 => ?_) (fun h4 => ?_)
        · refine j_iconst (v := 0) X d_TG_gate_30 (by decide) ?_
          exact j_zret X (Or.inl rfl) ⟨S, Or.inr ⟨fun h => h.2.2.2.1 h4, rfl, rfl⟩, rfl⟩ d_TG_gate_31
        · refine j_iload_n X d_TG_gate_23 rfl ?_
          refine j_sipush (v := 1000) X d_TG_gate_24 (by decide) ?_
          refine j_icmp_le (tgt := 32) X d_TG_gate_27 (by decide) (fun h5 => ?_) (fun h5 => ?_)
          · refine j_aload_n X d_TG_gate_32 rfl ?_
            refine j_get X i_TG 0 rfl rfl 1 (by decide) fl_TG_17 rfl d_TG_gate_33 ?_
            refine j_iload_n X d_TG_gate_36 rfl ?_
            refine j_aaldGN X 2 rfl hj (by decide) rfl d_TG_gate_37 ?_
            refine j_iload_n X d_TG_gate_38 rfl ?_
            refine j_putN X i_Gt t_Gt t_Gt_ok n_Gt (15 + j) (wX_G hj) rfl 0 (by decide) fl_TG_55 rfl rfl rfl rfl (Nat.le_of_ble_eq_true rfl) d_TG_gate_39 ?_
            refine j_eqw (wX_setG hj (by decide)) ?_
            refine j_aload_n X d_TG_gate_42 rfl ?_
            refine j_get X i_TG 0 rfl rfl 1 (by decide) fl_TG_17 rfl d_TG_gate_43 ?_
            refine j_iload_n X d_TG_gate_46 rfl ?_
            refine j_aaldGN X 2 rfl hj (by decide) rfl d_TG_gate_47 ?_
            refine j_iload_n X d_TG_gate_48 rfl ?_
            refine j_putN X i_Gt t_Gt t_Gt_ok n_Gt (15 + j) (wX_G hj) rfl 1 (by decide) fl_TG_58 rfl rfl rfl rfl (Nat.le_of_ble_eq_true rfl) d_TG_gate_49 ?_
            refine j_eqw (wX_setG hj (by decide)) ?_
            refine j_iconst (v := 1) X d_TG_gate_52 (by decide) ?_
            exact j_zret X (Or.inr rfl) ⟨_, Or.inl ⟨j, hj, rfl, ⟨h1, h2, h3, h4, h5⟩, rfl, rfl⟩, rfl⟩ d_TG_gate_53
          · refine j_iconst (v := 0) X d_TG_gate_30 (by decide) ?_
            exact j_zret X (Or.inl rfl) ⟨S, Or.inr ⟨fun h => h5 h.2.2.2.2, rfl, rfl⟩, rfl⟩ d_TG_gate_31
  · refine j_if_eq (tgt := 30) X d_TG_gate_4 (by decide) (fun _ => ?_) (fun h => absurd (rfl) h)
    refine j_iconst (v := 0) X d_TG_gate_30 (by decide) ?_
    exact j_zret X (Or.inl rfl) ⟨S, Or.inr ⟨fun h => h1 h.1, rfl, rfl⟩, rfl⟩ d_TG_gate_31
set_option maxHeartbeats 4000000 in
set_option maxRecDepth 100000 in
theorem c_TG_timer (l : Launch) (G : Gid) (ad : Nat → Nat) (S : St) (hR : ∀ j, Bz (S 3 j)) (hO : ∀ j, Bz (S 4 j)) (t w : Int32) : CtI l y_TG_timer b_TG_timer 4 (some .int) r1 G [.ref (ad 0), .int t, .int w] (wX G ad S) 0 0 (fun r w1 => w1 = wX G ad S ∧ PTimer S t w r) := by
  refine CtI.of (own := R_TG) (L := [some (.ref (ad 0)), some (.int t), some (.int w), none]) (by decide) rfl rfl (Nat.le_of_ble_eq_true rfl) rfl (fun x X => ?_)
  refine j_iload_n X d_TG_timer_0 rfl ?_
  refine j_callSi0 X [.int t] [] (c_TG_isTimer _ _ _ t) ok_TG_30 rfl (Nat.le_of_ble_eq_true rfl) ⟨Nat.le_of_ble_eq_true rfl, Nat.le_of_ble_eq_true rfl⟩ ⟨rfl, rfl⟩ rfl ⟨Nat.le_of_ble_eq_true rfl, Nat.le_of_ble_eq_true rfl⟩ d_TG_timer_1 (fun r w1 hw => ?_)
  obtain ⟨rfl, hw⟩ := hw
  rcases hw with ⟨h1, rfl⟩ | ⟨h1, rfl⟩
  · obtain ⟨j, hj, rfl⟩ := okT_j h1
    refine j_if_ne (tgt := 9) X d_TG_timer_4 (by decide) (fun _ => ?_) (fun h => absurd h (by decide))
    refine j_aload_n X d_TG_timer_9 rfl ?_
    refine j_get X i_TG 0 rfl rfl 0 (by decide) fl_TG_11 rfl d_TG_timer_10 ?_
    refine j_iload_n X d_TG_timer_13 rfl ?_
    refine j_aaldTN X 1 rfl hj (by decide) rfl d_TG_timer_14 ?_
    refine j_astore_n X d_TG_timer_15 (Nat.le_of_ble_eq_true rfl) ?_
    refine j_iload_n X d_TG_timer_16 rfl ?_
    rcases sw_9 w with hs | hs
    · rcases hs with rfl | rfl | rfl | rfl | rfl | rfl | rfl | rfl | rfl
      · refine j_tableIn (tgt := 68) X d_TG_timer_17 (by decide) (by decide) rfl (by decide) ?_
        refine j_aload_n X d_TG_timer_68 rfl ?_
        refine j_getN X i_Tm (7 + j) (wX_T hj) rfl 1 (by decide) fl_TG_42 rfl d_TG_timer_69 ?_
        exact j_iret X ⟨rfl, Or.inl ⟨j, hj, rfl, rfl⟩⟩ d_TG_timer_72
      · refine j_tableIn (tgt := 73) X d_TG_timer_17 (by decide) (by decide) rfl (by decide) ?_
        refine j_aload_n X d_TG_timer_73 rfl ?_
        refine j_getN X i_Tm (7 + j) (wX_T hj) rfl 0 (by decide) fl_TG_39 rfl d_TG_timer_74 ?_
        exact j_iret X ⟨rfl, Or.inl ⟨j, hj, rfl, rfl⟩⟩ d_TG_timer_77
      · refine j_tableIn (tgt := 78) X d_TG_timer_17 (by decide) (by decide) rfl (by decide) ?_
        refine j_aload_n X d_TG_timer_78 rfl ?_
        refine j_getN X i_Tm (7 + j) (wX_T hj) rfl 2 (by decide) fl_TG_35 rfl d_TG_timer_79 ?_
        exact j_iret X ⟨rfl, Or.inl ⟨j, hj, rfl, rfl⟩⟩ d_TG_timer_82
      · refine j_tableIn (tgt := 83) X d_TG_timer_17 (by decide) (by decide) rfl (by decide) ?_
        refine j_aload_n X d_TG_timer_83 rfl ?_
        refine j_getN X i_Tm (7 + j) (wX_T hj) rfl 3 (by decide) fl_TG_49 rfl d_TG_timer_84 ?_
        refine j_if_eq (tgt := 94) X d_TG_timer_87 (by decide) (fun hz => ?_) (fun hz => ?_)
        · refine j_iconst (v := 0) X d_TG_timer_94 (by decide) ?_
          exact j_iret X ⟨rfl, Or.inl ⟨j, hj, rfl, hz.symm⟩⟩ d_TG_timer_95
        · refine j_iconst (v := 1) X d_TG_timer_90 (by decide) ?_
          refine j_goto (tgt := 95) X d_TG_timer_91 (by decide) ?_
          exact j_iret X ⟨rfl, Or.inl ⟨j, hj, rfl, (by rcases hR j with e | e; exact absurd e hz; exact e.symm)⟩⟩ d_TG_timer_95
      · refine j_tableIn (tgt := 96) X d_TG_timer_17 (by decide) (by decide) rfl (by decide) ?_
        refine j_aload_n X d_TG_timer_96 rfl ?_
        refine j_getN X i_Tm (7 + j) (wX_T hj) rfl 4 (by decide) fl_TG_45 rfl d_TG_timer_97 ?_
        refine j_if_eq (tgt := 107) X d_TG_timer_100 (by decide) (fun hz => ?_) (fun hz => ?_)
        · refine j_iconst (v := 0) X d_TG_timer_107 (by decide) ?_
          exact j_iret X ⟨rfl, Or.inl ⟨j, hj, rfl, hz.symm⟩⟩ d_TG_timer_108
        · refine j_iconst (v := 1) X d_TG_timer_103 (by decide) ?_
          refine j_goto (tgt := 108) X d_TG_timer_104 (by decide) ?_
          exact j_iret X ⟨rfl, Or.inl ⟨j, hj, rfl, (by rcases hO j with e | e; exact absurd e hz; exact e.symm)⟩⟩ d_TG_timer_108
      · refine j_tableIn (tgt := 109) X d_TG_timer_17 (by decide) (by decide) rfl (by decide) ?_
        refine j_aload_n X d_TG_timer_109 rfl ?_
        refine j_getN X i_Tm (7 + j) (wX_T hj) rfl 5 (by decide) fl_TG_121 rfl d_TG_timer_110 ?_
        exact j_iret X ⟨rfl, Or.inl ⟨j, hj, rfl, rfl⟩⟩ d_TG_timer_113
      · refine j_tableIn (tgt := 114) X d_TG_timer_17 (by decide) (by decide) rfl (by decide) ?_
        refine j_aload_n X d_TG_timer_114 rfl ?_
        refine j_getN X i_Tm (7 + j) (wX_T hj) rfl 6 (by decide) fl_TG_89 rfl d_TG_timer_115 ?_
        exact j_iret X ⟨rfl, Or.inl ⟨j, hj, rfl, rfl⟩⟩ d_TG_timer_118
      · refine j_tableIn (tgt := 119) X d_TG_timer_17 (by decide) (by decide) rfl (by decide) ?_
        refine j_aload_n X d_TG_timer_119 rfl ?_
        refine j_getN X i_Tm (7 + j) (wX_T hj) rfl 7 (by decide) fl_TG_103 rfl d_TG_timer_120 ?_
        exact j_iret X ⟨rfl, Or.inl ⟨j, hj, rfl, rfl⟩⟩ d_TG_timer_123
      · refine j_tableIn (tgt := 124) X d_TG_timer_17 (by decide) (by decide) rfl (by decide) ?_
        refine j_aload_n X d_TG_timer_124 rfl ?_
        refine j_getN X i_Tm (7 + j) (wX_T hj) rfl 8 (by decide) fl_TG_64 rfl d_TG_timer_125 ?_
        exact j_iret X ⟨rfl, Or.inl ⟨j, hj, rfl, rfl⟩⟩ d_TG_timer_128
    · refine j_tableOut (tgt := 129) X d_TG_timer_17 hs (by decide) ?_
      refine j_iconst (v := -1) X d_TG_timer_129 (by decide) ?_
      refine j_iret X ⟨rfl, Or.inl ⟨j, hj, rfl, ?_⟩⟩ d_TG_timer_130
      unfold timR
      rw [if_neg (ne_of_out hs (by decide) (by decide)), if_neg (ne_of_out hs (by decide) (by decide)), if_neg (ne_of_out hs (by decide) (by decide)), if_neg (ne_of_out hs (by decide) (by decide)), if_neg (ne_of_out hs (by decide) (by decide)), if_neg (ne_of_out hs (by decide) (by decide)), if_neg (ne_of_out hs (by decide) (by decide)), if_neg (ne_of_out hs (by decide) (by decide)), if_neg (ne_of_out hs (by decide) (by decide))]
  · refine j_if_ne (tgt := 9) X d_TG_timer_4 (by decide) (fun h => absurd (rfl) h) (fun _ => ?_)
    refine j_iconst (v := -1) X d_TG_timer_7 (by decide) ?_
    exact j_iret X ⟨rfl, Or.inr ⟨h1, rfl⟩⟩ d_TG_timer_8
set_option maxHeartbeats 4000000 in
set_option maxRecDepth 100000 in
theorem c_TG_gateOf (l : Launch) (G : Gid) (ad : Nat → Nat) (S : St) (g w : Int32) : CtI l y_TG_gateOf b_TG_gateOf 4 (some .int) r1 G [.ref (ad 0), .int g, .int w] (wX G ad S) 0 0 (fun r w1 => w1 = wX G ad S ∧ PGateOf S g w r) := by
  refine CtI.of (own := R_TG) (L := [some (.ref (ad 0)), some (.int g), some (.int w), none]) (by decide) rfl rfl (Nat.le_of_ble_eq_true rfl) rfl (fun x X => ?_)
  refine j_iload_n X d_TG_gateOf_0 rfl ?_
  refine j_callSi0 X [.int g] [] (c_TG_isGate _ _ _ g) ok_TG_52 rfl (Nat.le_of_ble_eq_true rfl) ⟨Nat.le_of_ble_eq_true rfl, Nat.le_of_ble_eq_true rfl⟩ ⟨rfl, rfl⟩ rfl ⟨Nat.le_of_ble_eq_true rfl, Nat.le_of_ble_eq_true rfl⟩ d_TG_gateOf_1 (fun r w1 hw => ?_)
  obtain ⟨rfl, hw⟩ := hw
  rcases hw with ⟨h1, rfl⟩ | ⟨h1, rfl⟩
  · obtain ⟨j, hj, rfl⟩ := okG_j h1
    refine j_if_ne (tgt := 9) X d_TG_gateOf_4 (by decide) (fun _ => ?_) (fun h => absurd h (by decide))
    refine j_aload_n X d_TG_gateOf_9 rfl ?_
    refine j_get X i_TG 0 rfl rfl 1 (by decide) fl_TG_17 rfl d_TG_gateOf_10 ?_
    refine j_iload_n X d_TG_gateOf_13 rfl ?_
    refine j_aaldGN X 2 rfl hj (by decide) rfl d_TG_gateOf_14 ?_
    refine j_astore_n X d_TG_gateOf_15 (Nat.le_of_ble_eq_true rfl) ?_
    refine j_iload_n X d_TG_gateOf_16 rfl ?_
    rcases sw_7 w with hs | hs
    · rcases hs with rfl | rfl | rfl | rfl | rfl | rfl | rfl
      · refine j_tableIn (tgt := 60) X d_TG_gateOf_17 (by decide) (by decide) rfl (by decide) ?_
        refine j_aload_n X d_TG_gateOf_60 rfl ?_
        refine j_aload_n X d_TG_gateOf_61 rfl ?_
        refine j_callVi0 X [.ref (ad (15 + j))] [] (c_TG_asks _ _ _ _ j hj) ok_TG_79 (q0 := 0) rfl rfl rfl (Nat.le_of_ble_eq_true rfl) ⟨Nat.le_of_ble_eq_true rfl, Nat.le_of_ble_eq_true rfl⟩ ⟨rfl, rfl⟩ rfl ⟨Nat.le_of_ble_eq_true rfl, Nat.le_of_ble_eq_true rfl⟩ d_TG_gateOf_62 (fun r w1 hw => ?_)
        obtain ⟨rfl, rfl⟩ := hw
        refine j_if_eq (tgt := 72) X d_TG_gateOf_65 (by decide) (fun hz => ?_) (fun hz => ?_)
        · refine j_iconst (v := 0) X d_TG_gateOf_72 (by decide) ?_
          exact j_iret X ⟨rfl, Or.inl ⟨j, hj, rfl, hz.symm⟩⟩ d_TG_gateOf_73
        · refine j_iconst (v := 1) X d_TG_gateOf_68 (by decide) ?_
          refine j_goto (tgt := 73) X d_TG_gateOf_69 (by decide) ?_
          refine j_iret X ⟨rfl, Or.inl ⟨j, hj, rfl, ?_⟩⟩ d_TG_gateOf_73
          show (1 : Int32) = if S 30 0 &&& S 10 j = 0 then 0 else 1
          by_cases e : S 30 0 &&& S 10 j = 0
          · exact absurd (if_pos e) hz
          · rw [if_neg e]
      · refine j_tableIn (tgt := 74) X d_TG_gateOf_17 (by decide) (by decide) rfl (by decide) ?_
        refine j_aload_n X d_TG_gateOf_74 rfl ?_
        refine j_getN X i_Gt (15 + j) (wX_G hj) rfl 2 (by decide) fl_TG_76 rfl d_TG_gateOf_75 ?_
        exact j_iret X ⟨rfl, Or.inl ⟨j, hj, rfl, rfl⟩⟩ d_TG_gateOf_78
      · refine j_tableIn (tgt := 79) X d_TG_gateOf_17 (by decide) (by decide) rfl (by decide) ?_
        refine j_aload_n X d_TG_gateOf_79 rfl ?_
        refine j_getN X i_Gt (15 + j) (wX_G hj) rfl 0 (by decide) fl_TG_55 rfl d_TG_gateOf_80 ?_
        exact j_iret X ⟨rfl, Or.inl ⟨j, hj, rfl, rfl⟩⟩ d_TG_gateOf_83
      · refine j_tableIn (tgt := 84) X d_TG_gateOf_17 (by decide) (by decide) rfl (by decide) ?_
        refine j_aload_n X d_TG_gateOf_84 rfl ?_
        refine j_getN X i_Gt (15 + j) (wX_G hj) rfl 1 (by decide) fl_TG_58 rfl d_TG_gateOf_85 ?_
        exact j_iret X ⟨rfl, Or.inl ⟨j, hj, rfl, rfl⟩⟩ d_TG_gateOf_88
      · refine j_tableIn (tgt := 89) X d_TG_gateOf_17 (by decide) (by decide) rfl (by decide) ?_
        refine j_aload_n X d_TG_gateOf_89 rfl ?_
        refine j_getN X i_Gt (15 + j) (wX_G hj) rfl 3 (by decide) fl_TG_106 rfl d_TG_gateOf_90 ?_
        exact j_iret X ⟨rfl, Or.inl ⟨j, hj, rfl, rfl⟩⟩ d_TG_gateOf_93
      · refine j_tableIn (tgt := 94) X d_TG_gateOf_17 (by decide) (by decide) rfl (by decide) ?_
        refine j_aload_n X d_TG_gateOf_94 rfl ?_
        refine j_getN X i_Gt (15 + j) (wX_G hj) rfl 4 (by decide) fl_TG_96 rfl d_TG_gateOf_95 ?_
        exact j_iret X ⟨rfl, Or.inl ⟨j, hj, rfl, rfl⟩⟩ d_TG_gateOf_98
      · refine j_tableIn (tgt := 99) X d_TG_gateOf_17 (by decide) (by decide) rfl (by decide) ?_
        refine j_aload_n X d_TG_gateOf_99 rfl ?_
        refine j_getN X i_Gt (15 + j) (wX_G hj) rfl 5 (by decide) fl_TG_107 rfl d_TG_gateOf_100 ?_
        exact j_iret X ⟨rfl, Or.inl ⟨j, hj, rfl, rfl⟩⟩ d_TG_gateOf_103
    · refine j_tableOut (tgt := 104) X d_TG_gateOf_17 hs (by decide) ?_
      refine j_iconst (v := -1) X d_TG_gateOf_104 (by decide) ?_
      refine j_iret X ⟨rfl, Or.inl ⟨j, hj, rfl, ?_⟩⟩ d_TG_gateOf_105
      unfold gatR
      rw [if_neg (ne_of_out hs (by decide) (by decide)), if_neg (ne_of_out hs (by decide) (by decide)), if_neg (ne_of_out hs (by decide) (by decide)), if_neg (ne_of_out hs (by decide) (by decide)), if_neg (ne_of_out hs (by decide) (by decide)), if_neg (ne_of_out hs (by decide) (by decide)), if_neg (ne_of_out hs (by decide) (by decide))]
  · refine j_if_ne (tgt := 9) X d_TG_gateOf_4 (by decide) (fun h => absurd (rfl) h) (fun _ => ?_)
    refine j_iconst (v := -1) X d_TG_gateOf_7 (by decide) ?_
    exact j_iret X ⟨rfl, Or.inr ⟨h1, rfl⟩⟩ d_TG_gateOf_8
set_option maxHeartbeats 4000000 in
set_option maxRecDepth 100000 in
theorem c_Tm_comes (l : Launch) (G : Gid) (ad : Nat → Nat) (S : St) (t : Nat) (ht : t < 8) (k : Int32) : CtI l y_Tm_comes b_Tm_comes 2 (some .boolean) rz G [.ref (ad (7 + t)), .int k] (wX G ad S) 0 0 (fun r w => w = wX G ad (evC k t S) ∧ r = evE k t S) := by
  refine CtI.of (own := R_Tm) (L := [some (.ref (ad (7 + t))), some (.int k)]) (by decide) rfl rfl (Nat.le_of_ble_eq_true rfl) rfl (fun x X => ?_)
  refine j_aload_n X d_Tm_comes_0 rfl ?_
  refine j_get X i_Tm (7 + t) (wX_T ht) rfl 3 (by decide) fl_Tm_16 rfl d_Tm_comes_1 ?_
  refine j_if_ne (tgt := 9) X d_Tm_comes_4 (by decide) (fun h1 => ?_) (fun h1 => ?_)
  · refine j_aload_n X d_Tm_comes_9 rfl ?_
    refine j_dup X d_Tm_comes_10 rfl ?_
    refine j_get X i_Tm (7 + t) (wX_T ht) rfl 1 (by decide) fl_Tm_13 rfl d_Tm_comes_11 ?_
    refine j_iload_n X d_Tm_comes_14 rfl ?_
    refine j_isub X d_Tm_comes_15 ?_
    refine j_put X i_Tm t_Tm t_Tm_ok n_Tm (7 + t) (wX_T ht) rfl 1 (by decide) fl_Tm_13 rfl rfl rfl rfl (Nat.le_of_ble_eq_true rfl) d_Tm_comes_16 ?_
    refine j_eqw (wX_setT ht (by decide)) ?_
    refine j_aload_n X d_Tm_comes_19 rfl ?_
    refine j_get X i_Tm (7 + t) (wX_T ht) rfl 1 (by decide) fl_Tm_13 rfl d_Tm_comes_20 ?_
    refine j_top up_si ?_
    refine j_if_le (tgt := 28) X d_Tm_comes_23 (by decide) (fun h2 => ?_) (fun h2 => ?_)
    · refine j_aload_n X d_Tm_comes_28 rfl ?_
      refine j_aload_n X d_Tm_comes_29 rfl ?_
      refine j_get X i_Tm (7 + t) (wX_T ht) rfl 0 (by decide) fl_Tm_7 rfl d_Tm_comes_30 ?_
      refine j_put X i_Tm t_Tm t_Tm_ok n_Tm (7 + t) (wX_T ht) rfl 1 (by decide) fl_Tm_13 rfl rfl rfl rfl (Nat.le_of_ble_eq_true rfl) d_Tm_comes_33 ?_
      refine j_eqw (wX_setT ht (by decide)) ?_
      refine j_aload_n X d_Tm_comes_36 rfl ?_
      refine j_aload_n X d_Tm_comes_37 rfl ?_
      refine j_get X i_Tm (7 + t) (wX_T ht) rfl 4 (by decide) fl_Tm_20 rfl d_Tm_comes_38 ?_
      refine j_if_ne (tgt := 48) X d_Tm_comes_41 (by decide) (fun h3 => ?_) (fun h3 => ?_)
      · refine j_iconst (v := 0) X d_Tm_comes_48 (by decide) ?_
        refine j_put X i_Tm t_Tm t_Tm_ok n_Tm (7 + t) (wX_T ht) rfl 3 (by decide) fl_Tm_16 rfl rfl (nz (Or.inl rfl)) (fz (Or.inl rfl)) (Nat.le_of_ble_eq_true rfl) d_Tm_comes_49 ?_
        refine j_eqw (wX_setT ht (by decide)) ?_
        refine j_aload_n X d_Tm_comes_52 rfl ?_
        refine j_dup X d_Tm_comes_53 rfl ?_
        refine j_get X i_Tm (7 + t) (wX_T ht) rfl 5 (by decide) fl_Tm_23 rfl d_Tm_comes_54 ?_
        refine j_iconst (v := 1) X d_Tm_comes_57 (by decide) ?_
        refine j_iadd X d_Tm_comes_58 ?_
        refine j_put X i_Tm t_Tm t_Tm_ok n_Tm (7 + t) (wX_T ht) rfl 5 (by decide) fl_Tm_23 rfl rfl rfl rfl (Nat.le_of_ble_eq_true rfl) d_Tm_comes_59 ?_
        refine j_eqw (wX_setT ht (by decide)) ?_
        refine j_iconst (v := 1) X d_Tm_comes_62 (by decide) ?_
        exact j_zret X (Or.inr rfl) ⟨by unfold evC; rw [if_neg h1, if_neg (fun h => absurd h2 (Int32.not_le.mpr h)), if_neg (c := S 4 t = 0) h3]; rfl, by unfold evE; rw [if_neg h1, if_neg (fun h => absurd h2 (Int32.not_le.mpr h))]⟩ d_Tm_comes_63
      · refine j_iconst (v := 1) X d_Tm_comes_44 (by decide) ?_
        refine j_goto (tgt := 49) X d_Tm_comes_45 (by decide) ?_
        refine j_put X i_Tm t_Tm t_Tm_ok n_Tm (7 + t) (wX_T ht) rfl 3 (by decide) fl_Tm_16 rfl rfl (nz (Or.inr rfl)) (fz (Or.inr rfl)) (Nat.le_of_ble_eq_true rfl) d_Tm_comes_49 ?_
        refine j_eqw (wX_setT ht (by decide)) ?_
        refine j_aload_n X d_Tm_comes_52 rfl ?_
        refine j_dup X d_Tm_comes_53 rfl ?_
        refine j_get X i_Tm (7 + t) (wX_T ht) rfl 5 (by decide) fl_Tm_23 rfl d_Tm_comes_54 ?_
        refine j_iconst (v := 1) X d_Tm_comes_57 (by decide) ?_
        refine j_iadd X d_Tm_comes_58 ?_
        refine j_put X i_Tm t_Tm t_Tm_ok n_Tm (7 + t) (wX_T ht) rfl 5 (by decide) fl_Tm_23 rfl rfl rfl rfl (Nat.le_of_ble_eq_true rfl) d_Tm_comes_59 ?_
        refine j_eqw (wX_setT ht (by decide)) ?_
        refine j_iconst (v := 1) X d_Tm_comes_62 (by decide) ?_
        exact j_zret X (Or.inr rfl) ⟨by unfold evC; rw [if_neg h1, if_neg (fun h => absurd h2 (Int32.not_le.mpr h)), if_pos (c := S 4 t = 0) h3]; rfl, by unfold evE; rw [if_neg h1, if_neg (fun h => absurd h2 (Int32.not_le.mpr h))]⟩ d_Tm_comes_63
    · refine j_iconst (v := 0) X d_Tm_comes_26 (by decide) ?_
      exact j_zret X (Or.inl rfl) ⟨by unfold evC; rw [if_neg h1, if_pos (Int32.not_le.mp h2)], by unfold evE; rw [if_neg h1, if_pos (Int32.not_le.mp h2)]⟩ d_Tm_comes_27
  · refine j_iconst (v := 0) X d_Tm_comes_7 (by decide) ?_
    exact j_zret X (Or.inl rfl) ⟨by unfold evC; rw [if_pos h1], by unfold evE; rw [if_pos h1]⟩ d_Tm_comes_8
end
section
theorem j_drop {x : Ctx} {G : Gid} {a b : Nat} {Q : State → Prop} {ws : va_W} {pc : Nat} {L : List (Option Value)} {st : List Value} (i : Nat) (k : J x G a b Q ws pc (L.set i none) st) : J x G a b Q ws pc L st := by
  obtain ⟨p, l, e, R, s, m, args, below, meth, c, A⟩ := x
  intro H locs ls hP hD hS hl
  refine k H locs ls hP hD hS ⟨by rw [List.length_set]; exact hl.1, hl.2.1, fun j v hj => ?_⟩
  by_cases e : j = i
  · subst e
    by_cases hlt : j < L.length
    · rw [List.getElem?_set_self hlt] at hj
      cases hj
    · rw [List.getElem?_eq_none (by rw [List.length_set]; omega)] at hj
      cases hj
  · rw [List.getElem?_set_ne (Ne.symm e)] at hj
    exact hl.2.2 j v hj
theorem rem16 {n : Nat} (h : n < 2 ^ 31) : nI n - nI n / 16 * 16 = nI (n % 16) := pk_rem h (by decide) (by decide)
theorem and_nI (v : Int32) {m : Nat} (hm : m < 256) : ∃ j : Nat, j < 256 ∧ v &&& nI m = nI j := by
  refine ⟨v.toBitVec.toNat &&& m, Nat.lt_of_le_of_lt Nat.and_le_right hm, ?_⟩
  apply Int32.toBitVec_inj.mp
  apply BitVec.eq_of_toNat_eq
  rw [Int32.toBitVec_and, BitVec.toNat_and, pk_tn (by omega), pk_tn (Nat.lt_of_le_of_lt Nat.and_le_right (by omega))]
theorem ntz_tab0 : ∀ n : Nat, n < 256 → (n ≠ 0 → (lb (nI n) < 8 ∧ (nI n ^^^ (-1)) &&& (nI n - 1) = nI (2 ^ lb (nI n) - 1))) := by decide +kernel
theorem ntz_tab (n : Nat) (h : n < 256) (h0 : n ≠ 0) : (lb (nI n) = 0 ∧ (nI n ^^^ (-1)) &&& (nI n - 1) = 0) ∨ (lb (nI n) = 1 ∧ (nI n ^^^ (-1)) &&& (nI n - 1) = 1) ∨ (lb (nI n) = 2 ∧ (nI n ^^^ (-1)) &&& (nI n - 1) = 3) ∨ (lb (nI n) = 3 ∧ (nI n ^^^ (-1)) &&& (nI n - 1) = 7) ∨ (lb (nI n) = 4 ∧ (nI n ^^^ (-1)) &&& (nI n - 1) = 15) ∨ (lb (nI n) = 5 ∧ (nI n ^^^ (-1)) &&& (nI n - 1) = 31) ∨ (lb (nI n) = 6 ∧ (nI n ^^^ (-1)) &&& (nI n - 1) = 63) ∨ (lb (nI n) = 7 ∧ (nI n ^^^ (-1)) &&& (nI n - 1) = 127) := by
  obtain ⟨h1, h2⟩ := ntz_tab0 n h h0
  rcases lt8 h1 with e | e | e | e | e | e | e | e <;> rw [e] at h2
  · exact Or.inl ⟨e, h2⟩
  · exact Or.inr (Or.inl ⟨e, h2⟩)
  · exact Or.inr (Or.inr (Or.inl ⟨e, h2⟩))
  · exact Or.inr (Or.inr (Or.inr (Or.inl ⟨e, h2⟩)))
  · exact Or.inr (Or.inr (Or.inr (Or.inr (Or.inl ⟨e, h2⟩))))
  · exact Or.inr (Or.inr (Or.inr (Or.inr (Or.inr (Or.inl ⟨e, h2⟩)))))
  · exact Or.inr (Or.inr (Or.inr (Or.inr (Or.inr (Or.inr (Or.inl ⟨e, h2⟩))))))
  · exact Or.inr (Or.inr (Or.inr (Or.inr (Or.inr (Or.inr (Or.inr ⟨e, h2⟩))))))
theorem lb_lt {n : Nat} (h : n < 256) (h0 : n ≠ 0) : lb (nI n) < 8 := (ntz_tab0 n h h0).1
set_option maxHeartbeats 4000000 in
set_option maxRecDepth 100000 in
theorem c_Bk_add (l : Launch) (G : Gid) (ad : Nat → Nat) (S : St) (n : Nat) (hn : S 32 0 = nI n) (hn1 : n < 2 ^ 31) (u v w : Int32) : CtV l y_Bk_add b_Bk_add 5 rz G [.ref (ad 3), .int u, .int v, .int w] (wX G ad S) 0 0 (fun w1 => w1 = wX G ad (up (up (up (up S 20 (n % 16) u) 21 (n % 16) v) 22 (n % 16) w) 32 0 (S 32 0 + 1))) := by
  refine CtV.of (own := R_Bk) (L := [some (.ref (ad 3)), some (.int u), some (.int v), some (.int w), none]) (by decide) rfl rfl (Nat.le_of_ble_eq_true rfl) rfl (fun x X hnm => ?_)
  refine j_aload_n X d_Bk_add_0 rfl ?_
  refine j_get X i_Bk 3 rfl rfl 3 (by decide) fl_Bk_21 rfl d_Bk_add_1 ?_
  refine j_bipush (v := 16) X d_Bk_add_4 (by decide) ?_
  refine j_irem X d_Bk_add_6 (by decide) ?_
  refine j_top (show S 32 0 - S 32 0 / 16 * 16 = nI (n % 16) by rw [hn]; exact rem16 hn1) ?_
  refine j_istore X d_Bk_add_7 (Nat.le_of_ble_eq_true rfl) ?_
  refine j_aload_n X d_Bk_add_9 rfl ?_
  refine j_get X i_Bk 3 rfl rfl 0 (by decide) fl_Bk_9 rfl d_Bk_add_10 ?_
  refine j_iload X d_Bk_add_13 rfl ?_
  refine j_iload_n X d_Bk_add_15 rfl ?_
  refine j_iastN X 4 rfl (Nat.mod_lt n (by decide)) (by decide) d_Bk_add_16 ?_
  refine j_eqw wX_b0 ?_
  refine j_aload_n X d_Bk_add_17 rfl ?_
  refine j_get X i_Bk 3 rfl rfl 1 (by decide) fl_Bk_15 rfl d_Bk_add_18 ?_
  refine j_iload X d_Bk_add_21 rfl ?_
  refine j_iload_n X d_Bk_add_23 rfl ?_
  refine j_iastN X 5 rfl (Nat.mod_lt n (by decide)) (by decide) d_Bk_add_24 ?_
  refine j_eqw wX_b1 ?_
  refine j_aload_n X d_Bk_add_25 rfl ?_
  refine j_get X i_Bk 3 rfl rfl 2 (by decide) fl_Bk_18 rfl d_Bk_add_26 ?_
  refine j_iload X d_Bk_add_29 rfl ?_
  refine j_iload_n X d_Bk_add_31 rfl ?_
  refine j_iastN X 6 rfl (Nat.mod_lt n (by decide)) (by decide) d_Bk_add_32 ?_
  refine j_eqw wX_b2 ?_
  refine j_aload_n X d_Bk_add_33 rfl ?_
  refine j_dup X d_Bk_add_34 rfl ?_
  refine j_get X i_Bk 3 rfl rfl 3 (by decide) fl_Bk_21 rfl d_Bk_add_35 ?_
  refine j_iconst (v := 1) X d_Bk_add_38 (by decide) ?_
  refine j_iadd X d_Bk_add_39 ?_
  refine j_put X i_Bk t_Bk t_Bk_ok n_Bk 3 rfl rfl 3 (by decide) fl_Bk_21 rfl rfl rfl rfl (Nat.le_of_ble_eq_true rfl) d_Bk_add_40 ?_
  refine j_eqw wX_many ?_
  exact j_vret X rfl d_Bk_add_43
set_option maxHeartbeats 4000000 in
set_option maxRecDepth 100000 in
theorem c_Bk_get (l : Launch) (G : Gid) (ad : Nat → Nat) (S : St) (n : Nat) (hn : S 32 0 = nI n) (hn1 : n < 2 ^ 31) (i w : Int32) : CtI l y_Bk_get b_Bk_get 4 (some .int) rz G [.ref (ad 3), .int i, .int w] (wX G ad S) 0 0 (fun r w1 => w1 = wX G ad S ∧ PServed S i w r) := by
  refine CtI.of (own := R_Bk) (L := [some (.ref (ad 3)), some (.int i), some (.int w), none]) (by decide) rfl rfl (Nat.le_of_ble_eq_true rfl) rfl (fun x X => ?_)
  refine j_iload_n X d_Bk_get_0 rfl ?_
  refine j_if_lt (tgt := 18) X d_Bk_get_1 (by decide) (fun h1 => ?_) (fun h1 => ?_)
  · refine j_iconst (v := -1) X d_Bk_get_18 (by decide) ?_
    exact j_iret X ⟨rfl, Or.inr ⟨Or.inl (fun h => h.1 h1), rfl⟩⟩ d_Bk_get_19
  · refine j_iload_n X d_Bk_get_4 rfl ?_
    refine j_bipush (v := 16) X d_Bk_get_5 (by decide) ?_
    refine j_icmp_ge (tgt := 18) X d_Bk_get_7 (by decide) (fun h2 => ?_) (fun h2 => ?_)
    · refine j_iconst (v := -1) X d_Bk_get_18 (by decide) ?_
      exact j_iret X ⟨rfl, Or.inr ⟨Or.inl (fun h => absurd h2 (Int32.not_le.mpr h.2.1)), rfl⟩⟩ d_Bk_get_19
    · refine j_iload_n X d_Bk_get_10 rfl ?_
      refine j_aload_n X d_Bk_get_11 rfl ?_
      refine j_get X i_Bk 3 rfl rfl 3 (by decide) fl_Bk_21 rfl d_Bk_get_12 ?_
      refine j_icmp_lt (tgt := 20) X d_Bk_get_15 (by decide) (fun h3 => ?_) (fun h3 => ?_)
      · have hi : ∃ a : Nat, a < 16 ∧ i = nI a := by
          rcases pk_ix i (n := 16) (by decide) with z | z | z
          · exact absurd z h1
          · exact absurd z h2
          · exact z
        obtain ⟨a, ha, rfl⟩ := hi
        have han : a < n := by rw [hn] at h3; exact (nI_ltI (by omega) hn1).mp h3
        refine j_aload_n X d_Bk_get_20 rfl ?_
        refine j_get X i_Bk 3 rfl rfl 3 (by decide) fl_Bk_21 rfl d_Bk_get_21 ?_
        refine j_iconst (v := 1) X d_Bk_get_24 (by decide) ?_
        refine j_isub X d_Bk_get_25 ?_
        refine j_iload_n X d_Bk_get_26 rfl ?_
        refine j_isub X d_Bk_get_27 ?_
        refine j_bipush (v := 16) X d_Bk_get_28 (by decide) ?_
        refine j_irem X d_Bk_get_30 (by decide) ?_
        refine j_top (show (S 32 0 - 1 - nI a) - (S 32 0 - 1 - nI a) / 16 * 16 = nI ((n - 1 - a) % 16) by
          rw [hn, show (nI n - 1 : Int32) = nI (n - 1) from pk_sub (b := 1) (by omega), pk_sub (by omega)]
          exact rem16 (by omega)) ?_
        refine j_istore_n X d_Bk_get_31 (Nat.le_of_ble_eq_true rfl) ?_
        refine j_iload_n X d_Bk_get_32 rfl ?_
        refine j_if_ne (tgt := 45) X d_Bk_get_33 (by decide) (fun h4 => ?_) (fun h4 => ?_)
        · refine j_iload_n X d_Bk_get_45 rfl ?_
          refine j_iconst (v := 1) X d_Bk_get_46 (by decide) ?_
          refine j_icmp_ne (tgt := 59) X d_Bk_get_47 (by decide) (fun h5 => ?_) (fun h5 => ?_)
          · refine j_iload_n X d_Bk_get_59 rfl ?_
            refine j_iconst (v := 2) X d_Bk_get_60 (by decide) ?_
            refine j_icmp_ne (tgt := 73) X d_Bk_get_61 (by decide) (fun h6 => ?_) (fun h6 => ?_)
            · refine j_iconst (v := -1) X d_Bk_get_73 (by decide) ?_
              exact j_iret X ⟨rfl, Or.inr ⟨Or.inr ⟨h4, h5, h6⟩, rfl⟩⟩ d_Bk_get_74
            · refine j_aload_n X d_Bk_get_64 rfl ?_
              refine j_get X i_Bk 3 rfl rfl 2 (by decide) fl_Bk_18 rfl d_Bk_get_65 ?_
              refine j_iload_n X d_Bk_get_68 rfl ?_
              refine j_ialdN X 6 rfl (Nat.mod_lt _ (by decide)) (by decide) d_Bk_get_69 ?_
              refine j_goto (tgt := 74) X d_Bk_get_70 (by decide) ?_
              exact j_iret X ⟨rfl, Or.inl ⟨n, a, 2, hn1, hn, rfl, ha, han, h6, by decide, rfl⟩⟩ d_Bk_get_74
          · refine j_aload_n X d_Bk_get_50 rfl ?_
            refine j_get X i_Bk 3 rfl rfl 1 (by decide) fl_Bk_15 rfl d_Bk_get_51 ?_
            refine j_iload_n X d_Bk_get_54 rfl ?_
            refine j_ialdN X 5 rfl (Nat.mod_lt _ (by decide)) (by decide) d_Bk_get_55 ?_
            refine j_goto (tgt := 74) X d_Bk_get_56 (by decide) ?_
            exact j_iret X ⟨rfl, Or.inl ⟨n, a, 1, hn1, hn, rfl, ha, han, h5, by decide, rfl⟩⟩ d_Bk_get_74
        · refine j_aload_n X d_Bk_get_36 rfl ?_
          refine j_get X i_Bk 3 rfl rfl 0 (by decide) fl_Bk_9 rfl d_Bk_get_37 ?_
          refine j_iload_n X d_Bk_get_40 rfl ?_
          refine j_ialdN X 4 rfl (Nat.mod_lt _ (by decide)) (by decide) d_Bk_get_41 ?_
          refine j_goto (tgt := 74) X d_Bk_get_42 (by decide) ?_
          exact j_iret X ⟨rfl, Or.inl ⟨n, a, 0, hn1, hn, rfl, ha, han, h4, by decide, rfl⟩⟩ d_Bk_get_74
      · refine j_iconst (v := -1) X d_Bk_get_18 (by decide) ?_
        exact j_iret X ⟨rfl, Or.inr ⟨Or.inl (fun h => h3 h.2.2), rfl⟩⟩ d_Bk_get_19
set_option maxHeartbeats 4000000 in
set_option maxRecDepth 100000 in
theorem c_TG_served (l : Launch) (G : Gid) (ad : Nat → Nat) (S : St) (n : Nat) (hn : S 32 0 = nI n) (hn1 : n < 2 ^ 31) (i w : Int32) : CtI l y_TG_served b_TG_served 3 (some .int) r1 G [.ref (ad 0), .int i, .int w] (wX G ad S) 0 0 (fun r w1 => w1 = wX G ad S ∧ PServed S i w r) := by
  refine CtI.of (own := R_TG) (L := [some (.ref (ad 0)), some (.int i), some (.int w)]) (by decide) rfl rfl (Nat.le_of_ble_eq_true rfl) rfl (fun x X => ?_)
  refine j_aload_n X d_TG_served_0 rfl ?_
  refine j_get X i_TG 0 rfl rfl 2 (by decide) fl_TG_24 rfl d_TG_served_1 ?_
  refine j_iload_n X d_TG_served_4 rfl ?_
  refine j_iload_n X d_TG_served_5 rfl ?_
  refine j_callVi0 X [.int i, .int w] [] (c_Bk_get _ _ _ _ n hn hn1 i w) ok_TG_127 (q0 := 3) rfl rfl rfl (Nat.le_of_ble_eq_true rfl) ⟨Nat.le_of_ble_eq_true rfl, Nat.le_of_ble_eq_true rfl⟩ ⟨rfl, rfl⟩ rfl ⟨Nat.le_of_ble_eq_true rfl, Nat.le_of_ble_eq_true rfl⟩ d_TG_served_6 (fun r w1 hw => ?_)
  obtain ⟨rfl, hw⟩ := hw
  exact j_iret X ⟨rfl, hw⟩ d_TG_served_9
set_option maxHeartbeats 4000000 in
set_option maxRecDepth 100000 in
theorem c_Itg_ntz (l : Launch) (G : Gid) (ws : va_W) (n : Nat) (hn : n < 256) (h0 : n ≠ 0) : CtI l y_Itg_ntz b_Itg_ntz 2 (some .int) rz G [.int (nI n)] ws 0 0 (fun r w => w = ws ∧ r = nI (lb (nI n))) := by
  refine CtI.of (own := R_Itg) (L := [some (.int (nI n)), none]) (by decide) rfl rfl (Nat.le_of_ble_eq_true rfl) rfl (fun x X => ?_)
  refine j_iload_n X d_Itg_ntz_0 rfl ?_
  refine j_iconst (v := -1) X d_Itg_ntz_1 (by decide) ?_
  refine j_ixor X d_Itg_ntz_2 ?_
  refine j_iload_n X d_Itg_ntz_3 rfl ?_
  refine j_iconst (v := 1) X d_Itg_ntz_4 (by decide) ?_
  refine j_isub X d_Itg_ntz_5 ?_
  refine j_iand X d_Itg_ntz_6 ?_
  rcases ntz_tab n hn h0 with ⟨hb, hy⟩ | ⟨hb, hy⟩ | ⟨hb, hy⟩ | ⟨hb, hy⟩ | ⟨hb, hy⟩ | ⟨hb, hy⟩ | ⟨hb, hy⟩ | ⟨hb, hy⟩
  · refine j_top hy ?_
    refine j_istore_n X d_Itg_ntz_7 (Nat.le_of_ble_eq_true rfl) ?_
    refine j_iload_n X d_Itg_ntz_8 rfl ?_
    refine j_if_gt (tgt := 17) X d_Itg_ntz_9 (by decide) (fun h => absurd h (by decide)) (fun _ => ?_)
    refine j_iload_n X d_Itg_ntz_12 rfl ?_
    refine j_bipush (v := 32) X d_Itg_ntz_13 (by decide) ?_
    refine j_iand X d_Itg_ntz_15 ?_
    exact j_iret X ⟨rfl, by rw [hb]; rfl⟩ d_Itg_ntz_16
  · refine j_top hy ?_
    refine j_istore_n X d_Itg_ntz_7 (Nat.le_of_ble_eq_true rfl) ?_
    refine j_iload_n X d_Itg_ntz_8 rfl ?_
    refine j_if_gt (tgt := 17) X d_Itg_ntz_9 (by decide) (fun _ => ?_) (fun h => absurd (by decide) h)
    refine j_iconst (v := 1) X d_Itg_ntz_17 (by decide) ?_
    refine j_istore_n X d_Itg_ntz_18 (Nat.le_of_ble_eq_true rfl) ?_
    refine j_iload_n X d_Itg_ntz_19 rfl ?_
    refine j_ldcw X cst_Itg_264 d_Itg_ntz_20 ?_
    refine j_icmp_le (tgt := 34) X d_Itg_ntz_23 (by decide) (fun _ => ?_) (fun h => absurd (by decide) h)
    refine j_iload_n X d_Itg_ntz_34 rfl ?_
    refine j_sipush (v := 256) X d_Itg_ntz_35 (by decide) ?_
    refine j_icmp_le (tgt := 49) X d_Itg_ntz_38 (by decide) (fun _ => ?_) (fun h => absurd (by decide) h)
    refine j_iload_n X d_Itg_ntz_49 rfl ?_
    refine j_bipush (v := 16) X d_Itg_ntz_50 (by decide) ?_
    refine j_icmp_le (tgt := 62) X d_Itg_ntz_52 (by decide) (fun _ => ?_) (fun h => absurd (by decide) h)
    refine j_iload_n X d_Itg_ntz_62 rfl ?_
    refine j_iconst (v := 4) X d_Itg_ntz_63 (by decide) ?_
    refine j_icmp_le (tgt := 74) X d_Itg_ntz_64 (by decide) (fun _ => ?_) (fun h => absurd (by decide) h)
    refine j_iload_n X d_Itg_ntz_74 rfl ?_
    refine j_iload_n X d_Itg_ntz_75 rfl ?_
    refine j_iconst (v := 1) X d_Itg_ntz_76 (by decide) ?_
    refine j_iushr (w := 0) X d_Itg_ntz_77 (by decide) ?_
    refine j_iadd X d_Itg_ntz_78 ?_
    exact j_iret X ⟨rfl, by rw [hb]; rfl⟩ d_Itg_ntz_79
  · refine j_top hy ?_
    refine j_istore_n X d_Itg_ntz_7 (Nat.le_of_ble_eq_true rfl) ?_
    refine j_iload_n X d_Itg_ntz_8 rfl ?_
    refine j_if_gt (tgt := 17) X d_Itg_ntz_9 (by decide) (fun _ => ?_) (fun h => absurd (by decide) h)
    refine j_iconst (v := 1) X d_Itg_ntz_17 (by decide) ?_
    refine j_istore_n X d_Itg_ntz_18 (Nat.le_of_ble_eq_true rfl) ?_
    refine j_iload_n X d_Itg_ntz_19 rfl ?_
    refine j_ldcw X cst_Itg_264 d_Itg_ntz_20 ?_
    refine j_icmp_le (tgt := 34) X d_Itg_ntz_23 (by decide) (fun _ => ?_) (fun h => absurd (by decide) h)
    refine j_iload_n X d_Itg_ntz_34 rfl ?_
    refine j_sipush (v := 256) X d_Itg_ntz_35 (by decide) ?_
    refine j_icmp_le (tgt := 49) X d_Itg_ntz_38 (by decide) (fun _ => ?_) (fun h => absurd (by decide) h)
    refine j_iload_n X d_Itg_ntz_49 rfl ?_
    refine j_bipush (v := 16) X d_Itg_ntz_50 (by decide) ?_
    refine j_icmp_le (tgt := 62) X d_Itg_ntz_52 (by decide) (fun _ => ?_) (fun h => absurd (by decide) h)
    refine j_iload_n X d_Itg_ntz_62 rfl ?_
    refine j_iconst (v := 4) X d_Itg_ntz_63 (by decide) ?_
    refine j_icmp_le (tgt := 74) X d_Itg_ntz_64 (by decide) (fun _ => ?_) (fun h => absurd (by decide) h)
    refine j_iload_n X d_Itg_ntz_74 rfl ?_
    refine j_iload_n X d_Itg_ntz_75 rfl ?_
    refine j_iconst (v := 1) X d_Itg_ntz_76 (by decide) ?_
    refine j_iushr (w := 1) X d_Itg_ntz_77 (by decide) ?_
    refine j_iadd X d_Itg_ntz_78 ?_
    exact j_iret X ⟨rfl, by rw [hb]; rfl⟩ d_Itg_ntz_79
  · refine j_top hy ?_
    refine j_istore_n X d_Itg_ntz_7 (Nat.le_of_ble_eq_true rfl) ?_
    refine j_iload_n X d_Itg_ntz_8 rfl ?_
    refine j_if_gt (tgt := 17) X d_Itg_ntz_9 (by decide) (fun _ => ?_) (fun h => absurd (by decide) h)
    refine j_iconst (v := 1) X d_Itg_ntz_17 (by decide) ?_
    refine j_istore_n X d_Itg_ntz_18 (Nat.le_of_ble_eq_true rfl) ?_
    refine j_iload_n X d_Itg_ntz_19 rfl ?_
    refine j_ldcw X cst_Itg_264 d_Itg_ntz_20 ?_
    refine j_icmp_le (tgt := 34) X d_Itg_ntz_23 (by decide) (fun _ => ?_) (fun h => absurd (by decide) h)
    refine j_iload_n X d_Itg_ntz_34 rfl ?_
    refine j_sipush (v := 256) X d_Itg_ntz_35 (by decide) ?_
    refine j_icmp_le (tgt := 49) X d_Itg_ntz_38 (by decide) (fun _ => ?_) (fun h => absurd (by decide) h)
    refine j_iload_n X d_Itg_ntz_49 rfl ?_
    refine j_bipush (v := 16) X d_Itg_ntz_50 (by decide) ?_
    refine j_icmp_le (tgt := 62) X d_Itg_ntz_52 (by decide) (fun _ => ?_) (fun h => absurd (by decide) h)
    refine j_iload_n X d_Itg_ntz_62 rfl ?_
    refine j_iconst (v := 4) X d_Itg_ntz_63 (by decide) ?_
    refine j_icmp_le (tgt := 74) X d_Itg_ntz_64 (by decide) (fun h => absurd h (by decide)) (fun _ => ?_)
    refine j_iinc (v := 3) X d_Itg_ntz_67 rfl (by decide) ?_
    refine j_iload_n X d_Itg_ntz_70 rfl ?_
    refine j_iconst (v := 2) X d_Itg_ntz_71 (by decide) ?_
    refine j_iushr (w := 1) X d_Itg_ntz_72 (by decide) ?_
    refine j_istore_n X d_Itg_ntz_73 (Nat.le_of_ble_eq_true rfl) ?_
    refine j_iload_n X d_Itg_ntz_74 rfl ?_
    refine j_iload_n X d_Itg_ntz_75 rfl ?_
    refine j_iconst (v := 1) X d_Itg_ntz_76 (by decide) ?_
    refine j_iushr (w := 0) X d_Itg_ntz_77 (by decide) ?_
    refine j_iadd X d_Itg_ntz_78 ?_
    exact j_iret X ⟨rfl, by rw [hb]; rfl⟩ d_Itg_ntz_79
  · refine j_top hy ?_
    refine j_istore_n X d_Itg_ntz_7 (Nat.le_of_ble_eq_true rfl) ?_
    refine j_iload_n X d_Itg_ntz_8 rfl ?_
    refine j_if_gt (tgt := 17) X d_Itg_ntz_9 (by decide) (fun _ => ?_) (fun h => absurd (by decide) h)
    refine j_iconst (v := 1) X d_Itg_ntz_17 (by decide) ?_
    refine j_istore_n X d_Itg_ntz_18 (Nat.le_of_ble_eq_true rfl) ?_
    refine j_iload_n X d_Itg_ntz_19 rfl ?_
    refine j_ldcw X cst_Itg_264 d_Itg_ntz_20 ?_
    refine j_icmp_le (tgt := 34) X d_Itg_ntz_23 (by decide) (fun _ => ?_) (fun h => absurd (by decide) h)
    refine j_iload_n X d_Itg_ntz_34 rfl ?_
    refine j_sipush (v := 256) X d_Itg_ntz_35 (by decide) ?_
    refine j_icmp_le (tgt := 49) X d_Itg_ntz_38 (by decide) (fun _ => ?_) (fun h => absurd (by decide) h)
    refine j_iload_n X d_Itg_ntz_49 rfl ?_
    refine j_bipush (v := 16) X d_Itg_ntz_50 (by decide) ?_
    refine j_icmp_le (tgt := 62) X d_Itg_ntz_52 (by decide) (fun _ => ?_) (fun h => absurd (by decide) h)
    refine j_iload_n X d_Itg_ntz_62 rfl ?_
    refine j_iconst (v := 4) X d_Itg_ntz_63 (by decide) ?_
    refine j_icmp_le (tgt := 74) X d_Itg_ntz_64 (by decide) (fun h => absurd h (by decide)) (fun _ => ?_)
    refine j_iinc (v := 3) X d_Itg_ntz_67 rfl (by decide) ?_
    refine j_iload_n X d_Itg_ntz_70 rfl ?_
    refine j_iconst (v := 2) X d_Itg_ntz_71 (by decide) ?_
    refine j_iushr (w := 3) X d_Itg_ntz_72 (by decide) ?_
    refine j_istore_n X d_Itg_ntz_73 (Nat.le_of_ble_eq_true rfl) ?_
    refine j_iload_n X d_Itg_ntz_74 rfl ?_
    refine j_iload_n X d_Itg_ntz_75 rfl ?_
    refine j_iconst (v := 1) X d_Itg_ntz_76 (by decide) ?_
    refine j_iushr (w := 1) X d_Itg_ntz_77 (by decide) ?_
    refine j_iadd X d_Itg_ntz_78 ?_
    exact j_iret X ⟨rfl, by rw [hb]; rfl⟩ d_Itg_ntz_79
  · refine j_top hy ?_
    refine j_istore_n X d_Itg_ntz_7 (Nat.le_of_ble_eq_true rfl) ?_
    refine j_iload_n X d_Itg_ntz_8 rfl ?_
    refine j_if_gt (tgt := 17) X d_Itg_ntz_9 (by decide) (fun _ => ?_) (fun h => absurd (by decide) h)
    refine j_iconst (v := 1) X d_Itg_ntz_17 (by decide) ?_
    refine j_istore_n X d_Itg_ntz_18 (Nat.le_of_ble_eq_true rfl) ?_
    refine j_iload_n X d_Itg_ntz_19 rfl ?_
    refine j_ldcw X cst_Itg_264 d_Itg_ntz_20 ?_
    refine j_icmp_le (tgt := 34) X d_Itg_ntz_23 (by decide) (fun _ => ?_) (fun h => absurd (by decide) h)
    refine j_iload_n X d_Itg_ntz_34 rfl ?_
    refine j_sipush (v := 256) X d_Itg_ntz_35 (by decide) ?_
    refine j_icmp_le (tgt := 49) X d_Itg_ntz_38 (by decide) (fun _ => ?_) (fun h => absurd (by decide) h)
    refine j_iload_n X d_Itg_ntz_49 rfl ?_
    refine j_bipush (v := 16) X d_Itg_ntz_50 (by decide) ?_
    refine j_icmp_le (tgt := 62) X d_Itg_ntz_52 (by decide) (fun h => absurd h (by decide)) (fun _ => ?_)
    refine j_iinc (v := 5) X d_Itg_ntz_55 rfl (by decide) ?_
    refine j_iload_n X d_Itg_ntz_58 rfl ?_
    refine j_iconst (v := 4) X d_Itg_ntz_59 (by decide) ?_
    refine j_iushr (w := 1) X d_Itg_ntz_60 (by decide) ?_
    refine j_istore_n X d_Itg_ntz_61 (Nat.le_of_ble_eq_true rfl) ?_
    refine j_iload_n X d_Itg_ntz_62 rfl ?_
    refine j_iconst (v := 4) X d_Itg_ntz_63 (by decide) ?_
    refine j_icmp_le (tgt := 74) X d_Itg_ntz_64 (by decide) (fun _ => ?_) (fun h => absurd (by decide) h)
    refine j_iload_n X d_Itg_ntz_74 rfl ?_
    refine j_iload_n X d_Itg_ntz_75 rfl ?_
    refine j_iconst (v := 1) X d_Itg_ntz_76 (by decide) ?_
    refine j_iushr (w := 0) X d_Itg_ntz_77 (by decide) ?_
    refine j_iadd X d_Itg_ntz_78 ?_
    exact j_iret X ⟨rfl, by rw [hb]; rfl⟩ d_Itg_ntz_79
  · refine j_top hy ?_
    refine j_istore_n X d_Itg_ntz_7 (Nat.le_of_ble_eq_true rfl) ?_
    refine j_iload_n X d_Itg_ntz_8 rfl ?_
    refine j_if_gt (tgt := 17) X d_Itg_ntz_9 (by decide) (fun _ => ?_) (fun h => absurd (by decide) h)
    refine j_iconst (v := 1) X d_Itg_ntz_17 (by decide) ?_
    refine j_istore_n X d_Itg_ntz_18 (Nat.le_of_ble_eq_true rfl) ?_
    refine j_iload_n X d_Itg_ntz_19 rfl ?_
    refine j_ldcw X cst_Itg_264 d_Itg_ntz_20 ?_
    refine j_icmp_le (tgt := 34) X d_Itg_ntz_23 (by decide) (fun _ => ?_) (fun h => absurd (by decide) h)
    refine j_iload_n X d_Itg_ntz_34 rfl ?_
    refine j_sipush (v := 256) X d_Itg_ntz_35 (by decide) ?_
    refine j_icmp_le (tgt := 49) X d_Itg_ntz_38 (by decide) (fun _ => ?_) (fun h => absurd (by decide) h)
    refine j_iload_n X d_Itg_ntz_49 rfl ?_
    refine j_bipush (v := 16) X d_Itg_ntz_50 (by decide) ?_
    refine j_icmp_le (tgt := 62) X d_Itg_ntz_52 (by decide) (fun h => absurd h (by decide)) (fun _ => ?_)
    refine j_iinc (v := 5) X d_Itg_ntz_55 rfl (by decide) ?_
    refine j_iload_n X d_Itg_ntz_58 rfl ?_
    refine j_iconst (v := 4) X d_Itg_ntz_59 (by decide) ?_
    refine j_iushr (w := 3) X d_Itg_ntz_60 (by decide) ?_
    refine j_istore_n X d_Itg_ntz_61 (Nat.le_of_ble_eq_true rfl) ?_
    refine j_iload_n X d_Itg_ntz_62 rfl ?_
    refine j_iconst (v := 4) X d_Itg_ntz_63 (by decide) ?_
    refine j_icmp_le (tgt := 74) X d_Itg_ntz_64 (by decide) (fun _ => ?_) (fun h => absurd (by decide) h)
    refine j_iload_n X d_Itg_ntz_74 rfl ?_
    refine j_iload_n X d_Itg_ntz_75 rfl ?_
    refine j_iconst (v := 1) X d_Itg_ntz_76 (by decide) ?_
    refine j_iushr (w := 1) X d_Itg_ntz_77 (by decide) ?_
    refine j_iadd X d_Itg_ntz_78 ?_
    exact j_iret X ⟨rfl, by rw [hb]; rfl⟩ d_Itg_ntz_79
  · refine j_top hy ?_
    refine j_istore_n X d_Itg_ntz_7 (Nat.le_of_ble_eq_true rfl) ?_
    refine j_iload_n X d_Itg_ntz_8 rfl ?_
    refine j_if_gt (tgt := 17) X d_Itg_ntz_9 (by decide) (fun _ => ?_) (fun h => absurd (by decide) h)
    refine j_iconst (v := 1) X d_Itg_ntz_17 (by decide) ?_
    refine j_istore_n X d_Itg_ntz_18 (Nat.le_of_ble_eq_true rfl) ?_
    refine j_iload_n X d_Itg_ntz_19 rfl ?_
    refine j_ldcw X cst_Itg_264 d_Itg_ntz_20 ?_
    refine j_icmp_le (tgt := 34) X d_Itg_ntz_23 (by decide) (fun _ => ?_) (fun h => absurd (by decide) h)
    refine j_iload_n X d_Itg_ntz_34 rfl ?_
    refine j_sipush (v := 256) X d_Itg_ntz_35 (by decide) ?_
    refine j_icmp_le (tgt := 49) X d_Itg_ntz_38 (by decide) (fun _ => ?_) (fun h => absurd (by decide) h)
    refine j_iload_n X d_Itg_ntz_49 rfl ?_
    refine j_bipush (v := 16) X d_Itg_ntz_50 (by decide) ?_
    refine j_icmp_le (tgt := 62) X d_Itg_ntz_52 (by decide) (fun h => absurd h (by decide)) (fun _ => ?_)
    refine j_iinc (v := 5) X d_Itg_ntz_55 rfl (by decide) ?_
    refine j_iload_n X d_Itg_ntz_58 rfl ?_
    refine j_iconst (v := 4) X d_Itg_ntz_59 (by decide) ?_
    refine j_iushr (w := 7) X d_Itg_ntz_60 (by decide) ?_
    refine j_istore_n X d_Itg_ntz_61 (Nat.le_of_ble_eq_true rfl) ?_
    refine j_iload_n X d_Itg_ntz_62 rfl ?_
    refine j_iconst (v := 4) X d_Itg_ntz_63 (by decide) ?_
    refine j_icmp_le (tgt := 74) X d_Itg_ntz_64 (by decide) (fun h => absurd h (by decide)) (fun _ => ?_)
    refine j_iinc (v := 7) X d_Itg_ntz_67 rfl (by decide) ?_
    refine j_iload_n X d_Itg_ntz_70 rfl ?_
    refine j_iconst (v := 2) X d_Itg_ntz_71 (by decide) ?_
    refine j_iushr (w := 1) X d_Itg_ntz_72 (by decide) ?_
    refine j_istore_n X d_Itg_ntz_73 (Nat.le_of_ble_eq_true rfl) ?_
    refine j_iload_n X d_Itg_ntz_74 rfl ?_
    refine j_iload_n X d_Itg_ntz_75 rfl ?_
    refine j_iconst (v := 1) X d_Itg_ntz_76 (by decide) ?_
    refine j_iushr (w := 0) X d_Itg_ntz_77 (by decide) ?_
    refine j_iadd X d_Itg_ntz_78 ?_
    exact j_iret X ⟨rfl, by rw [hb]; rfl⟩ d_Itg_ntz_79
theorem Int32.add_sub_cancel_left' (a b : Int32) : a + b - a = b := by
  rw [Int32.add_comm, Int32.add_sub_cancel]
set_option maxHeartbeats 4000000 in
set_option maxRecDepth 100000 in
theorem c_TG_serve (l : Launch) (G : Gid) (ad : Nat → Nat) (S : St) (g : Nat) (hg : g < 4) (hm : ∃ m : Nat, m < 256 ∧ S 10 g = nI m) (n : Nat) (hn : S 32 0 = nI n) (hn1 : n < 2 ^ 31) : CtI l y_TG_serve b_TG_serve 5 (some .int) r1 G [.ref (ad 0), .ref (ad (15 + g)), .int (nI g)] (wX G ad S) 0 0 (fun r w => w = wX G ad (svS g S) ∧ r = svS g S 32 0 - S 32 0) := by
  refine CtI.of (own := R_TG) (L := [some (.ref (ad 0)), some (.ref (ad (15 + g))), some (.int (nI g)), none, none]) (by decide) rfl rfl (Nat.le_of_ble_eq_true rfl) rfl (fun x X => ?_)
  refine j_aload_n X d_TG_serve_0 rfl ?_
  refine j_get X i_TG 0 rfl rfl 3 (by decide) fl_TG_61 rfl d_TG_serve_1 ?_
  refine j_aload_n X d_TG_serve_4 rfl ?_
  refine j_getN X i_Gt (15 + g) (wX_G hg) rfl 0 (by decide) fl_TG_55 rfl d_TG_serve_5 ?_
  refine j_iand X d_TG_serve_8 ?_
  refine j_istore_n X d_TG_serve_9 (Nat.le_of_ble_eq_true rfl) ?_
  refine j_iload_n X d_TG_serve_10 rfl ?_
  refine j_if_ne (tgt := 26) X d_TG_serve_11 (by decide) (fun h1 => ?_) (fun h1 => ?_)
  · obtain ⟨m, hm, hm1⟩ := hm
    obtain ⟨c, hc, hA⟩ := and_nI (S 30 0) hm
    rw [← hm1] at hA
    have hc0 : c ≠ 0 := fun e => h1 (by rw [hA, e]; rfl)
    refine j_iload_n X d_TG_serve_26 rfl ?_
    refine j_top hA ?_
    refine j_callSi0 X [.int (nI c)] [] (c_Itg_ntz _ _ _ c hc hc0) ok_TG_99 rfl (Nat.le_of_ble_eq_true rfl) ⟨Nat.le_of_ble_eq_true rfl, Nat.le_of_ble_eq_true rfl⟩ ⟨rfl, rfl⟩ rfl ⟨Nat.le_of_ble_eq_true rfl, Nat.le_of_ble_eq_true rfl⟩ d_TG_serve_27 (fun r w1 hw => ?_)
    obtain ⟨rfl, rfl⟩ := hw
    have hb : lb (S 30 0 &&& S 10 g) < 8 := by rw [hA]; exact lb_lt hc hc0
    refine j_top (show nI (lb (nI c)) = nI (lb (S 30 0 &&& S 10 g)) by rw [hA]) ?_
    generalize hbe : lb (S 30 0 &&& S 10 g) = b at hb ⊢
    refine j_istore X d_TG_serve_30 (Nat.le_of_ble_eq_true rfl) ?_
    refine j_aload_n X d_TG_serve_32 rfl ?_
    refine j_dup X d_TG_serve_33 rfl ?_
    refine j_get X i_TG 0 rfl rfl 3 (by decide) fl_TG_61 rfl d_TG_serve_34 ?_
    refine j_iconst (v := 1) X d_TG_serve_37 (by decide) ?_
    refine j_iload X d_TG_serve_38 rfl ?_
    refine j_ishl X d_TG_serve_40 ?_
    refine j_iconst (v := -1) X d_TG_serve_41 (by decide) ?_
    refine j_ixor X d_TG_serve_42 ?_
    refine j_iand X d_TG_serve_43 ?_
    refine j_put X i_TG t_TG t_TG_ok n_TG 0 rfl rfl 3 (by decide) fl_TG_61 rfl rfl rfl rfl (Nat.le_of_ble_eq_true rfl) d_TG_serve_44 ?_
    refine j_eqw wX_sta ?_
    refine j_aload_n X d_TG_serve_47 rfl ?_
    refine j_get X i_TG 0 rfl rfl 0 (by decide) fl_TG_11 rfl d_TG_serve_48 ?_
    refine j_iload X d_TG_serve_51 rfl ?_
    refine j_aaldTN X 1 rfl hb (by decide) rfl d_TG_serve_53 ?_
    refine j_dup X d_TG_serve_54 rfl ?_
    refine j_getN X i_Tm (7 + b) (wX_T hb) rfl 7 (by decide) fl_TG_103 rfl d_TG_serve_55 ?_
    refine j_iconst (v := 1) X d_TG_serve_58 (by decide) ?_
    refine j_iadd X d_TG_serve_59 ?_
    refine j_putN X i_Tm t_Tm t_Tm_ok n_Tm (7 + b) (wX_T hb) rfl 7 (by decide) fl_TG_103 rfl rfl rfl rfl (Nat.le_of_ble_eq_true rfl) d_TG_serve_60 ?_
    refine j_eqw (wX_setT hb (by decide)) ?_
    refine j_aload_n X d_TG_serve_63 rfl ?_
    refine j_dup X d_TG_serve_64 rfl ?_
    refine j_getN X i_Gt (15 + g) (wX_G hg) rfl 3 (by decide) fl_TG_106 rfl d_TG_serve_65 ?_
    refine j_iconst (v := 1) X d_TG_serve_68 (by decide) ?_
    refine j_iadd X d_TG_serve_69 ?_
    refine j_putN X i_Gt t_Gt t_Gt_ok n_Gt (15 + g) (wX_G hg) rfl 3 (by decide) fl_TG_106 rfl rfl rfl rfl (Nat.le_of_ble_eq_true rfl) d_TG_serve_70 ?_
    refine j_eqw (wX_setG hg (by decide)) ?_
    refine j_aload_n X d_TG_serve_73 rfl ?_
    refine j_aload_n X d_TG_serve_74 rfl ?_
    refine j_get X i_TG 0 rfl rfl 4 (by decide) fl_TG_83 rfl d_TG_serve_75 ?_
    refine j_putN X i_Gt t_Gt t_Gt_ok n_Gt (15 + g) (wX_G hg) rfl 5 (by decide) fl_TG_107 rfl rfl rfl rfl (Nat.le_of_ble_eq_true rfl) d_TG_serve_78 ?_
    refine j_eqw (wX_setG hg (by decide)) ?_
    refine j_aload_n X d_TG_serve_81 rfl ?_
    refine j_get X i_TG 0 rfl rfl 2 (by decide) fl_TG_24 rfl d_TG_serve_82 ?_
    refine j_iload X d_TG_serve_85 rfl ?_
    refine j_iload_n X d_TG_serve_87 rfl ?_
    refine j_aload_n X d_TG_serve_88 rfl ?_
    refine j_get X i_TG 0 rfl rfl 4 (by decide) fl_TG_83 rfl d_TG_serve_89 ?_
    refine j_callVv0 X [.int (nI b), .int (nI g), .int (S 31 0)] [] (c_Bk_add _ _ _ (svA g b S) n hn hn1 (nI b) (nI g) (S 31 0)) ok_TG_110 (q0 := 3) rfl rfl rfl (Nat.le_of_ble_eq_true rfl) ⟨Nat.le_of_ble_eq_true rfl, Nat.le_of_ble_eq_true rfl⟩ ⟨rfl, rfl⟩ rfl ⟨Nat.le_of_ble_eq_true rfl, Nat.le_of_ble_eq_true rfl⟩ d_TG_serve_92 (fun w1 hw => ?_)
    subst hw
    refine j_iconst (v := 1) X d_TG_serve_95 (by decide) ?_
    refine j_iret X ⟨?_, ?_⟩ d_TG_serve_96
    · unfold svS
      rw [if_neg h1, hbe]
      unfold svB bk
      rw [hn, nI_clamp hn1]
      rfl
    · have e : svS g S 32 0 = S 32 0 + 1 := by
        unfold svS
        rw [if_neg h1]
        rfl
      rw [e]
      exact (Int32.add_sub_cancel_left' _ _).symm
  · refine j_aload_n X d_TG_serve_14 rfl ?_
    refine j_dup X d_TG_serve_15 rfl ?_
    refine j_getN X i_Gt (15 + g) (wX_G hg) rfl 4 (by decide) fl_TG_96 rfl d_TG_serve_16 ?_
    refine j_iconst (v := 1) X d_TG_serve_19 (by decide) ?_
    refine j_iadd X d_TG_serve_20 ?_
    refine j_putN X i_Gt t_Gt t_Gt_ok n_Gt (15 + g) (wX_G hg) rfl 4 (by decide) fl_TG_96 rfl rfl rfl rfl (Nat.le_of_ble_eq_true rfl) d_TG_serve_21 ?_
    refine j_eqw (wX_setG hg (by decide)) ?_
    refine j_iconst (v := 0) X d_TG_serve_24 (by decide) ?_
    have e : svS g S = up S 14 g (S 14 g + 1) := by unfold svS; rw [if_pos h1]
    exact j_iret X ⟨by rw [e], by rw [e]; exact (Int32.sub_self (a := S 32 0)).symm⟩ d_TG_serve_25
end
section
/-! ===== which fields the steps keep; what quiet() answers ===== -/
theorem evE_z (k : Int32) (t : Nat) (S : St) : evE k t S = 0 ∨ evE k t S = 1 := by
  unfold evE
  split
  · exact Or.inl rfl
  · split
    · exact Or.inl rfl
    · exact Or.inr rfl
theorem evC_f {k : Int32} {t : Nat} {S : St} {f : Nat} (h1 : f ≠ 1) (h3 : f ≠ 3) (h5 : f ≠ 5) : evC k t S f = S f := by
  unfold evC
  split
  · rfl
  · split
    · rw [up_f h1]
    · rw [up_f h5, up_f h3, up_f h1, up_f h1]
theorem evM_f {t : Nat} {S : St} {f : Nat} (h6 : f ≠ 6) (h30 : f ≠ 30) : evM t S f = S f := by
  unfold evM
  rw [up_f h30, up_f h6]
theorem evS_f {k : Int32} {t : Nat} {S : St} {f : Nat} (h1 : f ≠ 1) (h3 : f ≠ 3) (h5 : f ≠ 5) (h6 : f ≠ 6) (h30 : f ≠ 30) : evS k t S f = S f := by
  unfold evS
  split
  · exact evC_f h1 h3 h5
  · rw [evM_f h6 h30, evC_f h1 h3 h5]
theorem tmS_f {k : Int32} {t : Nat} {e : Int32} {S : St} {f : Nat} (h1 : f ≠ 1) (h3 : f ≠ 3) (h5 : f ≠ 5) (h6 : f ≠ 6) (h30 : f ≠ 30) : tmS k t e S f = S f := by
  unfold tmS
  split
  · exact evS_f h1 h3 h5 h6 h30
  · split
    · rfl
    · exact evS_f h1 h3 h5 h6 h30
theorem tm_f {k : Int32} {f : Nat} (h1 : f ≠ 1) (h3 : f ≠ 3) (h5 : f ≠ 5) (h6 : f ≠ 6) (h30 : f ≠ 30) : ∀ (n t : Nat) (e : Int32) (S : St), tm k n t e S f = S f
  | 0, _, _, _ => rfl
  | n + 1, t, e, S => by
    show tm k n (t + 1) (tmE k t e S) (tmS k t e S) f = S f
    rw [tm_f h1 h3 h5 h6 h30 n, tmS_f h1 h3 h5 h6 h30]
theorem svS_f {g : Nat} {S : St} {f : Nat} (h : f < 7 ∨ (7 < f ∧ f < 13) ∨ (22 < f ∧ f ≠ 30 ∧ f ≠ 32)) : svS g S f = S f := by
  unfold svS
  split
  · rw [up_f (by omega)]
  · unfold svB svA
    rw [up_f (by omega), up_f (by omega), up_f (by omega), up_f (by omega), up_f (by omega), up_f (by omega), up_f (by omega), up_f (by omega)]
theorem svS_32 (g : Nat) (S : St) : svS g S 32 0 = S 32 0 ∨ svS g S 32 0 = S 32 0 + 1 := by
  unfold svS
  split
  · exact Or.inl rfl
  · exact Or.inr rfl
theorem gtS_f {k : Int32} {g : Nat} {S : St} {f : Nat} (h : f < 7 ∨ (7 < f ∧ f < 12) ∨ (22 < f ∧ f ≠ 30 ∧ f ≠ 32)) : gtS k g S f = S f := by
  unfold gtS
  split
  · split
    · rw [svS_f (by omega), up_f (by omega)]
    · rw [up_f (by omega)]
  · rfl
theorem gtS_32 (k : Int32) (g : Nat) (S : St) : gtS k g S 32 0 = S 32 0 ∨ gtS k g S 32 0 = S 32 0 + 1 := by
  unfold gtS
  split
  · split
    · rcases svS_32 g (up S 12 g (S 12 g - k)) with h | h
      · exact Or.inl h
      · exact Or.inr h
    · exact Or.inl rfl
  · exact Or.inl rfl
theorem Bnd.gtS {B : Nat} {k : Int32} {g : Nat} {S : St} (h : Bnd B S) : Bnd (B + 1) (gtS k g S) := by
  obtain ⟨n, h1, h2⟩ := h
  rcases gtS_32 k g S with e | e
  · exact ⟨n, by omega, by rw [e]; exact h2⟩
  · exact ⟨n + 1, by omega, by rw [e, h2]; exact nI_1 n⟩
theorem gt_f {k : Int32} {f : Nat} (h : f < 7 ∨ (7 < f ∧ f < 12) ∨ (22 < f ∧ f ≠ 30 ∧ f ≠ 32)) : ∀ (n g : Nat) (S : St), gt k n g S f = S f
  | 0, _, _ => rfl
  | n + 1, g, S => by
    show gt k n (g + 1) (gtS k g S) f = S f
    rw [gt_f h n, gtS_f h]
theorem Bnd.gt {k : Int32} : ∀ {n B g : Nat} {S : St}, Bnd B S → Bnd (B + n) (gt k n g S)
  | 0, _, _, _, h => h
  | n + 1, B, g, S, h => by
    have h1 := Bnd.gt (k := k) (n := n) (g := g + 1) (Bnd.gtS (k := k) (g := g) h)
    rw [show B + (n + 1) = B + 1 + n by omega]
    exact h1
theorem wtS_f {g : Nat} {S : St} {f : Nat} (h : f ≠ 12) : wtS g S f = S f := by
  unfold wtS
  split
  · split
    · rfl
    · rw [up_f h]
  · rfl
theorem wt_f {f : Nat} (h : f ≠ 12) : ∀ (n g : Nat) (S : St), wt n g S f = S f
  | 0, _, _ => rfl
  | n + 1, g, S => by
    show wt n (g + 1) (wtS g S) f = S f
    rw [wt_f h n, wtS_f h]
theorem Bnd.wt {n B g : Nat} {S : St} (h : Bnd B S) : Bnd B (wt n g S) := by
  obtain ⟨k, h1, h2⟩ := h
  exact ⟨k, h1, by rw [wt_f (by decide)]; exact h2⟩
theorem Bnd.tm {k : Int32} {n B t : Nat} {e : Int32} {S : St} (h : Bnd B S) : Bnd B (tm k n t e S) := by
  obtain ⟨m, h1, h2⟩ := h
  exact ⟨m, h1, by rw [tm_f (by decide) (by decide) (by decide) (by decide) (by decide)]; exact h2⟩
theorem Bnd_passS {k : Int32} {B : Nat} {S : St} (h : Bnd B S) : Bnd (B + 4) (passS k S) := by
  unfold passS
  exact Bnd.wt (Bnd.gt (Bnd.tm (by obtain ⟨m, h1, h2⟩ := h; exact ⟨m, h1, h2⟩)))
theorem Bnd.mono {B B' : Nat} {S : St} (h : Bnd B S) (hB : B ≤ B') : Bnd B' S := by
  obtain ⟨n, h1, h2⟩ := h
  exact ⟨n, by omega, h2⟩
theorem toInt_0 : (0 : Int32).toInt = 0 := by decide
theorem toInt_1 : (1 : Int32).toInt = 1 := by decide
theorem toInt_2 : (2 : Int32).toInt = 2 := by decide
/-- what quiet() has found with i timers and j gates seen -/
def QI (S : St) (i j : Nat) (r : Int32) : Prop := 1 ≤ r ∧ (∀ t, t < i → act S t → r ≤ S 1 t) ∧ (∀ g, g < j → 0 < S 12 g → r ≤ S 12 g) ∧ (∀ g, g < j → ¬ 0 < S 12 g → ¬ S 30 0 &&& S 10 g = 0 → r ≤ 1)
def QP (S : St) (r : Int32) : Prop := QI S 8 4 r
theorem min_le_l (u v : Int32) : (if v < u then v else u) ≤ u := by
  split
  · rename_i h
    rw [Int32.lt_iff_toInt_lt] at h
    rw [Int32.le_iff_toInt_le]; omega
  · rw [Int32.le_iff_toInt_le]; omega
theorem min_le_r (u v : Int32) : (if v < u then v else u) ≤ v := by
  split
  · rw [Int32.le_iff_toInt_le]; omega
  · rename_i h
    rw [Int32.lt_iff_toInt_lt] at h
    rw [Int32.le_iff_toInt_le]; omega
theorem le_min {w u v : Int32} (h1 : w ≤ u) (h2 : w ≤ v) : w ≤ (if v < u then v else u) := by
  split
  · exact h2
  · exact h1
theorem le_tr {u v w : Int32} (h1 : u ≤ v) (h2 : v ≤ w) : u ≤ w := by
  rw [Int32.le_iff_toInt_le] at *; omega
theorem one_le {v : Int32} (h : 0 < v) : 1 ≤ v := by
  rw [Int32.lt_iff_toInt_lt, toInt_0] at h
  rw [Int32.le_iff_toInt_le, toInt_1]; omega
theorem QI.tA {S : St} {i : Nat} {r : Int32} (h : QI S i 0 r) (h1 : 1 ≤ S 1 i) : QI S (i + 1) 0 (if S 1 i < r then S 1 i else r) := by
  refine ⟨le_min h.1 h1, fun t ht ha => ?_, fun g hg => absurd hg (by omega), fun g hg => absurd hg (by omega)⟩
  by_cases e : t = i
  · subst e; exact min_le_r _ _
  · exact le_tr (min_le_l _ _) (h.2.1 t (by omega) ha)
theorem QI.tB {S : St} {i : Nat} {r : Int32} (h : QI S i 0 r) (h1 : ¬ act S i) : QI S (i + 1) 0 r := by
  refine ⟨h.1, fun t ht ha => ?_, fun g hg => absurd hg (by omega), fun g hg => absurd hg (by omega)⟩
  by_cases e : t = i
  · subst e; exact absurd ha h1
  · exact h.2.1 t (by omega) ha
theorem QI.gC {S : St} {i j : Nat} {r : Int32} (h : QI S i j r) (h1 : 0 < S 12 j) : QI S i (j + 1) (if S 12 j < r then S 12 j else r) := by
  refine ⟨le_min h.1 (one_le h1), fun t ht ha => le_tr (min_le_l _ _) (h.2.1 t ht ha), fun g hg ha => ?_, fun g hg ha hb => ?_⟩
  · by_cases e : g = j
    · subst e; exact min_le_r _ _
    · exact le_tr (min_le_l _ _) (h.2.2.1 g (by omega) ha)
  · by_cases e : g = j
    · subst e; exact absurd h1 ha
    · exact le_tr (min_le_l _ _) (h.2.2.2 g (by omega) ha hb)
theorem QI.gD {S : St} {i j : Nat} {r : Int32} (h : QI S i j r) (hI : ∀ t, 1 ≤ S 1 t) : QI S i (j + 1) 1 := by
  refine ⟨by decide, fun t _ _ => hI t, fun g _ ha => one_le ha, fun _ _ _ _ => by decide⟩
theorem QI.gE {S : St} {i j : Nat} {r : Int32} (h : QI S i j r) (h1 : ¬ 0 < S 12 j) (h2 : S 30 0 &&& S 10 j = 0) : QI S i (j + 1) r := by
  refine ⟨h.1, h.2.1, fun g hg ha => ?_, fun g hg ha hb => ?_⟩
  · by_cases e : g = j
    · subst e; exact absurd ha h1
    · exact h.2.2.1 g (by omega) ha
  · by_cases e : g = j
    · subst e; exact absurd h2 hb
    · exact h.2.2.2 g (by omega) ha hb
theorem QI.mono {S : St} {i j : Nat} {r r' : Int32} (h : QI S i j r) (h1 : 1 ≤ r') (h2 : r' ≤ r) : QI S i j r' := ⟨h1, fun t ht ha => le_tr h2 (h.2.1 t ht ha), fun g hg ha => le_tr h2 (h.2.2.1 g hg ha), fun g hg ha hb => le_tr h2 (h.2.2.2 g hg ha hb)⟩
/-- what look(3) has found with i timers seen -/
def LI (S : St) (i : Nat) (r : Int32) : Prop := ((∀ t : Nat, t < i → ¬ act S t) ∧ r = 2147483647) ∨ ((∃ t : Nat, t < i ∧ act S t ∧ r = S 1 t) ∧ ∀ t : Nat, t < i → act S t → r ≤ S 1 t)
theorem LI.A {S : St} {i : Nat} {r : Int32} (h : LI S i r) (ha : act S i) (hI : (S 1 i).toInt ≤ 65535) : LI S (i + 1) (if S 1 i < r then S 1 i else r) := by
  rcases h with ⟨h1, rfl⟩ | ⟨⟨t, ht, hta, rfl⟩, h2⟩
  · right
    have e : (if S 1 i < 2147483647 then S 1 i else 2147483647) = S 1 i := if_pos (by rw [Int32.lt_iff_toInt_lt, show (2147483647 : Int32).toInt = 2147483647 by decide]; omega)
    rw [e]
    refine ⟨⟨i, by omega, ha, rfl⟩, fun t ht hta => ?_⟩
    by_cases e2 : t = i
    · subst e2; rw [Int32.le_iff_toInt_le]; omega
    · exact absurd hta (h1 t (by omega))
  · right
    refine ⟨?_, fun u hu hua => ?_⟩
    · by_cases e : S 1 i < S 1 t
      · rw [if_pos e]; exact ⟨i, by omega, ha, rfl⟩
      · rw [if_neg e]; exact ⟨t, by omega, hta, rfl⟩
    · by_cases e2 : u = i
      · subst e2; exact min_le_r _ _
      · exact le_tr (min_le_l _ _) (h2 u (by omega) hua)
theorem LI.B {S : St} {i : Nat} {r : Int32} (h : LI S i r) (ha : ¬ act S i) : LI S (i + 1) r := by
  rcases h with ⟨h1, rfl⟩ | ⟨⟨t, ht, hta, rfl⟩, h2⟩
  · left
    refine ⟨fun u hu => ?_, rfl⟩
    by_cases e : u = i
    · subst e; exact ha
    · exact h1 u (by omega)
  · right
    refine ⟨⟨t, by omega, hta, rfl⟩, fun u hu hua => ?_⟩
    by_cases e : u = i
    · subst e; exact absurd hua ha
    · exact h2 u (by omega) hua
theorem clr_0 (are : Int32) (S : St) : clr are 0 S = S := by
  funext a t
  unfold clr
  by_cases h : a = 8
  · subst h; rw [if_pos rfl, if_neg (by omega)]
  · rw [if_neg h]
theorem clr_s (are : Int32) (t : Nat) (S : St) : up (clr are t S) 8 t (clr are t S 8 t + ((are >>> (nI t &&& 31)) &&& 1)) = clr are (t + 1) S := by
  funext a u
  by_cases h : a = 8
  · subst h
    by_cases e : u = t
    · subst e
      rw [up_si]
      unfold clr
      rw [if_pos rfl, if_pos rfl, if_neg (by omega), if_pos (by omega)]
    · rw [up_sn e]
      unfold clr
      rw [if_pos rfl, if_pos rfl]
      by_cases e2 : u < t
      · rw [if_pos e2, if_pos (by omega)]
      · rw [if_neg e2, if_neg (by omega)]
  · rw [up_f h]
    unfold clr
    rw [if_neg h, if_neg h]
theorem clr_up (are : Int32) (n : Nat) (S : St) (v : Int32) : clr are n (up S 30 0 v) = up (clr are n S) 30 0 v := by
  funext a u
  by_cases h : a = 8
  · subst h
    rw [up_f (by decide)]
    rfl
  · by_cases h2 : a = 30
    · subst h2
      rw [up_s]
      unfold clr
      rw [if_neg h, if_neg h, up_s]
    · rw [up_f h2]
      unfold clr
      rw [if_neg h, if_neg h, up_f h2]
end
section
def r2 : Room := { frames := 2, cells := 0, slots := 0, locals := 64 }
set_option maxHeartbeats 4000000 in
set_option maxRecDepth 100000 in
theorem lp_clear {x : Ctx} {G : Gid} {ad : Nat → Nat} {Q : State → Prop} (X : Fix x G b_TG_clear 4 R_TG (some .int) rz) (m are : Int32) : ∀ (n t : Nat) (S : St), t + n = 8 → J x G 0 0 Q (wX G ad (clr are 8 S)) 65 [some (.ref (ad 0)), some (.int m), some (.int are), some (.int (nI 8))] [] → J x G 0 0 Q (wX G ad (clr are t S)) 34 [some (.ref (ad 0)), some (.int m), some (.int are), some (.int (nI t))] [] := by
  intro n
  induction n with
  | zero =>
    intro t S ht
    have e : t = 8 := by omega
    subst e
    intro k
    refine j_iload_n X d_TG_clear_34 rfl ?_
    refine j_bipush (v := 8) X d_TG_clear_35 (by decide) ?_
    refine j_icmp_ge (tgt := 65) X d_TG_clear_37 (by decide) (fun _ => ?_) (fun h => absurd (by decide) h)
    exact k
  | succ n ih =>
    intro t S htn
    intro k
    have ht : t < 8 := by omega
    refine j_iload_n X d_TG_clear_34 rfl ?_
    refine j_bipush (v := 8) X d_TG_clear_35 (by decide) ?_
    refine j_icmp_ge (tgt := 65) X d_TG_clear_37 (by decide) (fun h => absurd h ((okT_of ht).2)) (fun _ => ?_)
    refine j_aload_n X d_TG_clear_40 rfl ?_
    refine j_get X i_TG 0 rfl rfl 0 (by decide) fl_TG_11 rfl d_TG_clear_41 ?_
    refine j_iload_n X d_TG_clear_44 rfl ?_
    refine j_aaldTN X 1 rfl ht (by decide) rfl d_TG_clear_45 ?_
    refine j_dup X d_TG_clear_46 rfl ?_
    refine j_getN X i_Tm (7 + t) (wX_T ht) rfl 8 (by decide) fl_TG_64 rfl d_TG_clear_47 ?_
    refine j_iload_n X d_TG_clear_50 rfl ?_
    refine j_iload_n X d_TG_clear_51 rfl ?_
    refine j_ishr X d_TG_clear_52 ?_
    refine j_iconst (v := 1) X d_TG_clear_53 (by decide) ?_
    refine j_iand X d_TG_clear_54 ?_
    refine j_iadd X d_TG_clear_55 ?_
    refine j_putN X i_Tm t_Tm t_Tm_ok n_Tm (7 + t) (wX_T ht) rfl 8 (by decide) fl_TG_64 rfl rfl rfl rfl (Nat.le_of_ble_eq_true rfl) d_TG_clear_56 ?_
    refine j_eqw (wX_setT ht (by decide)) ?_
    refine j_eqw (congrArg (wX G ad) (clr_s are t S)) ?_
    refine j_iinc (v := nI (t + 1)) X d_TG_clear_59 rfl (inc1 _) ?_
    refine j_goto (tgt := 34) X d_TG_clear_62 (by decide) ?_
    exact ih (t + 1) S (by omega) k
set_option maxHeartbeats 4000000 in
set_option maxRecDepth 100000 in
theorem c_TG_clear (l : Launch) (G : Gid) (ad : Nat → Nat) (S : St) (m : Int32) : CtI l y_TG_clear b_TG_clear 4 (some .int) rz G [.ref (ad 0), .int m] (wX G ad S) 0 0 (fun r w => ∃ S1, PClear S m r S1 ∧ w = wX G ad S1) := by
  refine CtI.of (own := R_TG) (L := [some (.ref (ad 0)), some (.int m), none, none]) (by decide) rfl rfl (Nat.le_of_ble_eq_true rfl) rfl (fun x X => ?_)
  refine j_iload_n X d_TG_clear_0 rfl ?_
  refine j_if_lt (tgt := 11) X d_TG_clear_1 (by decide) (fun h1 => ?_) (fun h1 => ?_)
  · refine j_iconst (v := -1) X d_TG_clear_11 (by decide) ?_
    exact j_iret X ⟨S, Or.inr ⟨fun h => h.1 h1, rfl, rfl⟩, rfl⟩ d_TG_clear_12
  · refine j_iload_n X d_TG_clear_4 rfl ?_
    refine j_sipush (v := 255) X d_TG_clear_5 (by decide) ?_
    refine j_icmp_le (tgt := 13) X d_TG_clear_8 (by decide) (fun h2 => ?_) (fun h2 => ?_)
    · refine j_aload_n X d_TG_clear_13 rfl ?_
      refine j_get X i_TG 0 rfl rfl 3 (by decide) fl_TG_61 rfl d_TG_clear_14 ?_
      refine j_iload_n X d_TG_clear_17 rfl ?_
      refine j_iand X d_TG_clear_18 ?_
      refine j_istore_n X d_TG_clear_19 (Nat.le_of_ble_eq_true rfl) ?_
      refine j_aload_n X d_TG_clear_20 rfl ?_
      refine j_dup X d_TG_clear_21 rfl ?_
      refine j_get X i_TG 0 rfl rfl 3 (by decide) fl_TG_61 rfl d_TG_clear_22 ?_
      refine j_iload_n X d_TG_clear_25 rfl ?_
      refine j_iconst (v := -1) X d_TG_clear_26 (by decide) ?_
      refine j_ixor X d_TG_clear_27 ?_
      refine j_iand X d_TG_clear_28 ?_
      refine j_put X i_TG t_TG t_TG_ok n_TG 0 rfl rfl 3 (by decide) fl_TG_61 rfl rfl rfl rfl (Nat.le_of_ble_eq_true rfl) d_TG_clear_29 ?_
      refine j_eqw wX_sta ?_
      refine j_iconst (v := 0) X d_TG_clear_32 (by decide) ?_
      refine j_istore_n X d_TG_clear_33 (Nat.le_of_ble_eq_true rfl) ?_
      refine j_eqw (congrArg (wX G ad) (clr_0 (S 30 0 &&& m) (up S 30 0 (S 30 0 &&& (m ^^^ (-1)))))).symm ?_
      refine lp_clear X m (S 30 0 &&& m) 8 0 _ rfl ?_
      refine j_iload_n X d_TG_clear_65 rfl ?_
      exact j_iret X ⟨_, Or.inl ⟨⟨h1, h2⟩, rfl, rfl⟩, by unfold clearS; rw [clr_up]⟩ d_TG_clear_66
    · refine j_iconst (v := -1) X d_TG_clear_11 (by decide) ?_
      exact j_iret X ⟨S, Or.inr ⟨fun h => h2 h.2, rfl, rfl⟩, rfl⟩ d_TG_clear_12
set_option maxHeartbeats 4000000 in
set_option maxRecDepth 100000 in
theorem lp_look {x : Ctx} {G : Gid} {ad : Nat → Nat} {Q : State → Prop} (X : Fix x G b_TG_look 7 R_TG (some .int) r1) (S : St) (hI : Inv S) (w : Int32) : ∀ (n i : Nat) (r : Int32), i + n = 8 → LI S i r → (∀ r : Int32, LI S 8 r → J x G 0 0 Q (wX G ad S) 114 [some (.ref (ad 0)), some (.int w), some (.int r), some (.ref (ad 1)), some (.int 8), some (.int (nI 8)), none] []) → J x G 0 0 Q (wX G ad S) 65 [some (.ref (ad 0)), some (.int w), some (.int r), some (.ref (ad 1)), some (.int 8), some (.int (nI i)), none] [] := by
  intro n
  induction n with
  | zero =>
    intro i r hi hL k
    have e : i = 8 := by omega
    subst e
    refine j_iload X d_TG_look_65 rfl ?_
    refine j_iload X d_TG_look_67 rfl ?_
    refine j_icmp_ge (tgt := 114) X d_TG_look_69 (by decide) (fun _ => ?_) (fun h => absurd (by decide) h)
    exact k r hL
  | succ n ih =>
    intro i r hi hL k
    have ht : i < 8 := by omega
    refine j_iload X d_TG_look_65 rfl ?_
    refine j_iload X d_TG_look_67 rfl ?_
    refine j_icmp_ge (tgt := 114) X d_TG_look_69 (by decide) (fun h => absurd h ((okT_of ht).2)) (fun _ => ?_)
    refine j_aload_n X d_TG_look_72 rfl ?_
    refine j_iload X d_TG_look_73 rfl ?_
    refine j_aaldTN X 1 rfl ht (by decide) rfl d_TG_look_75 ?_
    refine j_astore X d_TG_look_76 (Nat.le_of_ble_eq_true rfl) ?_
    refine j_aload X d_TG_look_78 rfl ?_
    refine j_getN X i_Tm (7 + i) (wX_T ht) rfl 3 (by decide) fl_TG_49 rfl d_TG_look_80 ?_
    refine j_if_eq (tgt := 106) X d_TG_look_83 (by decide) (fun h1 => ?_) (fun h1 => ?_)
    · refine j_iload_n X d_TG_look_106 rfl ?_
      refine j_istore_n X d_TG_look_107 (Nat.le_of_ble_eq_true rfl) ?_
      refine j_iinc (v := nI (i + 1)) X d_TG_look_108 rfl (inc1 _) ?_
      refine j_goto (tgt := 65) X d_TG_look_111 (by decide) ?_
      refine j_drop 6 ?_
      exact ih (i + 1) _ (by omega) (hL.B (fun h => h.1 h1)) k
    · refine j_aload X d_TG_look_86 rfl ?_
      refine j_getN X i_Tm (7 + i) (wX_T ht) rfl 2 (by decide) fl_TG_35 rfl d_TG_look_88 ?_
      refine j_if_ne (tgt := 106) X d_TG_look_91 (by decide) (fun h2 => ?_) (fun h2 => ?_)
      · refine j_iload_n X d_TG_look_106 rfl ?_
        refine j_istore_n X d_TG_look_107 (Nat.le_of_ble_eq_true rfl) ?_
        refine j_iinc (v := nI (i + 1)) X d_TG_look_108 rfl (inc1 _) ?_
        refine j_goto (tgt := 65) X d_TG_look_111 (by decide) ?_
        refine j_drop 6 ?_
        exact ih (i + 1) _ (by omega) (hL.B (fun h => h2 h.2)) k
      · refine j_iload_n X d_TG_look_94 rfl ?_
        refine j_aload X d_TG_look_95 rfl ?_
        refine j_getN X i_Tm (7 + i) (wX_T ht) rfl 1 (by decide) fl_TG_42 rfl d_TG_look_97 ?_
        refine j_mmin X ml_TG_70 d_TG_look_100 (Nat.le_of_ble_eq_true rfl) (Nat.le_of_ble_eq_true rfl) (Nat.le_of_ble_eq_true rfl) (Nat.le_of_ble_eq_true rfl) rfl ?_
        refine j_goto (tgt := 107) X d_TG_look_103 (by decide) ?_
        refine j_istore_n X d_TG_look_107 (Nat.le_of_ble_eq_true rfl) ?_
        refine j_iinc (v := nI (i + 1)) X d_TG_look_108 rfl (inc1 _) ?_
        refine j_goto (tgt := 65) X d_TG_look_111 (by decide) ?_
        refine j_drop 6 ?_
        exact ih (i + 1) _ (by omega) (hL.A ⟨h1, h2⟩ (hI 1 i).2) k
set_option maxHeartbeats 4000000 in
set_option maxRecDepth 100000 in
theorem c_TG_look (l : Launch) (G : Gid) (ad : Nat → Nat) (S : St) (hI : Inv S) (w : Int32) : CtI l y_TG_look b_TG_look 7 (some .int) r1 G [.ref (ad 0), .int w] (wX G ad S) 0 0 (fun r w1 => w1 = wX G ad S ∧ PLook S w r) := by
  refine CtI.of (own := R_TG) (L := [some (.ref (ad 0)), some (.int w), none, none, none, none, none]) (by decide) rfl rfl (Nat.le_of_ble_eq_true rfl) rfl (fun x X => ?_)
  refine j_iload_n X d_TG_look_0 rfl ?_
  rcases sw_4 w with hs | hs
  · rcases hs with rfl | rfl | rfl | rfl
    · refine j_tableIn (tgt := 32) X d_TG_look_1 (by decide) (by decide) rfl (by decide) ?_
      refine j_aload_n X d_TG_look_32 rfl ?_
      refine j_get X i_TG 0 rfl rfl 3 (by decide) fl_TG_61 rfl d_TG_look_33 ?_
      exact j_iret X ⟨rfl, Or.inl ⟨rfl, rfl⟩⟩ d_TG_look_36
    · refine j_tableIn (tgt := 37) X d_TG_look_1 (by decide) (by decide) rfl (by decide) ?_
      refine j_aload_n X d_TG_look_37 rfl ?_
      refine j_get X i_TG 0 rfl rfl 4 (by decide) fl_TG_83 rfl d_TG_look_38 ?_
      exact j_iret X ⟨rfl, Or.inr (Or.inl ⟨rfl, rfl⟩)⟩ d_TG_look_41
    · refine j_tableIn (tgt := 42) X d_TG_look_1 (by decide) (by decide) rfl (by decide) ?_
      refine j_aload_n X d_TG_look_42 rfl ?_
      refine j_get X i_TG 0 rfl rfl 2 (by decide) fl_TG_24 rfl d_TG_look_43 ?_
      refine j_getN X i_Bk 3 rfl rfl 3 (by decide) fl_TG_124 rfl d_TG_look_46 ?_
      exact j_iret X ⟨rfl, Or.inr (Or.inr (Or.inl ⟨rfl, rfl⟩))⟩ d_TG_look_49
    · refine j_tableIn (tgt := 50) X d_TG_look_1 (by decide) (by decide) rfl (by decide) ?_
      refine j_ldc X cst_TG_69 d_TG_look_50 ?_
      refine j_istore_n X d_TG_look_52 (Nat.le_of_ble_eq_true rfl) ?_
      refine j_aload_n X d_TG_look_53 rfl ?_
      refine j_get X i_TG 0 rfl rfl 0 (by decide) fl_TG_11 rfl d_TG_look_54 ?_
      refine j_astore_n X d_TG_look_57 (Nat.le_of_ble_eq_true rfl) ?_
      refine j_aload_n X d_TG_look_58 rfl ?_
      refine j_alen X 1 2 rfl rfl rfl d_TG_look_59 ?_
      refine j_istore X d_TG_look_60 (Nat.le_of_ble_eq_true rfl) ?_
      refine j_iconst (v := 0) X d_TG_look_62 (by decide) ?_
      refine j_istore X d_TG_look_63 (Nat.le_of_ble_eq_true rfl) ?_
      refine lp_look X S hI 3 8 0 2147483647 rfl (Or.inl ⟨fun t h => absurd h (by omega), rfl⟩) (fun r hr => ?_)
      refine j_iload_n X d_TG_look_114 rfl ?_
      refine j_ldc X cst_TG_69 d_TG_look_115 ?_
      refine j_icmp_ne (tgt := 124) X d_TG_look_117 (by decide) (fun h1 => ?_) (fun h1 => ?_)
      · refine j_iload_n X d_TG_look_124 rfl ?_
        refine j_iret X ⟨rfl, Or.inr (Or.inr (Or.inr (Or.inl ⟨rfl, ?_⟩)))⟩ d_TG_look_125
        rcases hr with hr | hr
        · exact absurd hr.2 h1
        · exact Or.inr hr
      · refine j_iconst (v := 0) X d_TG_look_120 (by decide) ?_
        refine j_goto (tgt := 125) X d_TG_look_121 (by decide) ?_
        refine j_iret X ⟨rfl, Or.inr (Or.inr (Or.inr (Or.inl ⟨rfl, ?_⟩)))⟩ d_TG_look_125
        rcases hr with hr | ⟨⟨t, ht, hta, e⟩, -⟩
        · exact Or.inl ⟨hr.1, rfl⟩
        · have h2 := (hI 1 t).2
          rw [← e, h1] at h2
          exact absurd h2 (by decide)
  · refine j_tableOut (tgt := 126) X d_TG_look_1 hs (by decide) ?_
    refine j_iconst (v := -1) X d_TG_look_126 (by decide) ?_
    exact j_iret X ⟨rfl, Or.inr (Or.inr (Or.inr (Or.inr ⟨ne_of_out hs (by decide) (by decide), ne_of_out hs (by decide) (by decide), ne_of_out hs (by decide) (by decide), ne_of_out hs (by decide) (by decide), rfl⟩)))⟩ d_TG_look_127
set_option maxHeartbeats 4000000 in
set_option maxRecDepth 100000 in
theorem lp_quiet1 {x : Ctx} {G : Gid} {ad : Nat → Nat} {Q : State → Prop} (X : Fix x G b_TG_quiet 6 R_TG (some .int) r1) (S : St) (h1I : ∀ t, 1 ≤ S 1 t) : ∀ (n i : Nat) (r : Int32), i + n = 8 → QI S i 0 r → (∀ r : Int32, QI S 8 0 r → J x G 0 0 Q (wX G ad S) 62 [some (.ref (ad 0)), some (.int r), some (.ref (ad 1)), some (.int 8), some (.int (nI 8)), none] []) → J x G 0 0 Q (wX G ad S) 14 [some (.ref (ad 0)), some (.int r), some (.ref (ad 1)), some (.int 8), some (.int (nI i)), none] [] := by
  intro n
  induction n with
  | zero =>
    intro i r hi hL k
    have e : i = 8 := by omega
    subst e
    refine j_iload X d_TG_quiet_14 rfl ?_
    refine j_iload_n X d_TG_quiet_16 rfl ?_
    refine j_icmp_ge (tgt := 62) X d_TG_quiet_17 (by decide) (fun _ => ?_) (fun h => absurd (by decide) h)
    exact k r hL
  | succ n ih =>
    intro i r hi hL k
    have ht : i < 8 := by omega
    refine j_iload X d_TG_quiet_14 rfl ?_
    refine j_iload_n X d_TG_quiet_16 rfl ?_
    refine j_icmp_ge (tgt := 62) X d_TG_quiet_17 (by decide) (fun h => absurd h ((okT_of ht).2)) (fun _ => ?_)
    refine j_aload_n X d_TG_quiet_20 rfl ?_
    refine j_iload X d_TG_quiet_21 rfl ?_
    refine j_aaldTN X 1 rfl ht (by decide) rfl d_TG_quiet_23 ?_
    refine j_astore X d_TG_quiet_24 (Nat.le_of_ble_eq_true rfl) ?_
    refine j_aload X d_TG_quiet_26 rfl ?_
    refine j_getN X i_Tm (7 + i) (wX_T ht) rfl 3 (by decide) fl_TG_49 rfl d_TG_quiet_28 ?_
    refine j_if_eq (tgt := 54) X d_TG_quiet_31 (by decide) (fun h1 => ?_) (fun h1 => ?_)
    · refine j_iload_n X d_TG_quiet_54 rfl ?_
      refine j_istore_n X d_TG_quiet_55 (Nat.le_of_ble_eq_true rfl) ?_
      refine j_iinc (v := nI (i + 1)) X d_TG_quiet_56 rfl (inc1 _) ?_
      refine j_goto (tgt := 14) X d_TG_quiet_59 (by decide) ?_
      refine j_drop 5 ?_
      exact ih (i + 1) _ (by omega) (hL.tB (fun h => h.1 h1)) k
    · refine j_aload X d_TG_quiet_34 rfl ?_
      refine j_getN X i_Tm (7 + i) (wX_T ht) rfl 2 (by decide) fl_TG_35 rfl d_TG_quiet_36 ?_
      refine j_if_ne (tgt := 54) X d_TG_quiet_39 (by decide) (fun h2 => ?_) (fun h2 => ?_)
      · refine j_iload_n X d_TG_quiet_54 rfl ?_
        refine j_istore_n X d_TG_quiet_55 (Nat.le_of_ble_eq_true rfl) ?_
        refine j_iinc (v := nI (i + 1)) X d_TG_quiet_56 rfl (inc1 _) ?_
        refine j_goto (tgt := 14) X d_TG_quiet_59 (by decide) ?_
        refine j_drop 5 ?_
        exact ih (i + 1) _ (by omega) (hL.tB (fun h => h2 h.2)) k
      · refine j_iload_n X d_TG_quiet_42 rfl ?_
        refine j_aload X d_TG_quiet_43 rfl ?_
        refine j_getN X i_Tm (7 + i) (wX_T ht) rfl 1 (by decide) fl_TG_42 rfl d_TG_quiet_45 ?_
        refine j_mmin X ml_TG_70 d_TG_quiet_48 (Nat.le_of_ble_eq_true rfl) (Nat.le_of_ble_eq_true rfl) (Nat.le_of_ble_eq_true rfl) (Nat.le_of_ble_eq_true rfl) rfl ?_
        refine j_goto (tgt := 55) X d_TG_quiet_51 (by decide) ?_
        refine j_istore_n X d_TG_quiet_55 (Nat.le_of_ble_eq_true rfl) ?_
        refine j_iinc (v := nI (i + 1)) X d_TG_quiet_56 rfl (inc1 _) ?_
        refine j_goto (tgt := 14) X d_TG_quiet_59 (by decide) ?_
        refine j_drop 5 ?_
        exact ih (i + 1) _ (by omega) (hL.tA (h1I i)) k
set_option maxHeartbeats 4000000 in
set_option maxRecDepth 100000 in
theorem lp_quiet2 {x : Ctx} {G : Gid} {ad : Nat → Nat} {Q : State → Prop} (X : Fix x G b_TG_quiet 6 R_TG (some .int) r1) (S : St) (h1I : ∀ t, 1 ≤ S 1 t) : ∀ (n i : Nat) (r : Int32), i + n = 4 → QI S 8 i r → (∀ r : Int32, QI S 8 4 r → J x G 0 0 Q (wX G ad S) 126 [some (.ref (ad 0)), some (.int r), some (.ref (ad 2)), some (.int 4), some (.int (nI 4)), none] []) → J x G 0 0 Q (wX G ad S) 73 [some (.ref (ad 0)), some (.int r), some (.ref (ad 2)), some (.int 4), some (.int (nI i)), none] [] := by
  intro n
  induction n with
  | zero =>
    intro i r hi hL k
    have e : i = 4 := by omega
    subst e
    refine j_iload X d_TG_quiet_73 rfl ?_
    refine j_iload_n X d_TG_quiet_75 rfl ?_
    refine j_icmp_ge (tgt := 126) X d_TG_quiet_76 (by decide) (fun _ => ?_) (fun h => absurd (by decide) h)
    exact k r hL
  | succ n ih =>
    intro i r hi hL k
    have hg : i < 4 := by omega
    refine j_iload X d_TG_quiet_73 rfl ?_
    refine j_iload_n X d_TG_quiet_75 rfl ?_
    refine j_icmp_ge (tgt := 126) X d_TG_quiet_76 (by decide) (fun h => absurd h ((okG_of hg).2)) (fun _ => ?_)
    refine j_aload_n X d_TG_quiet_79 rfl ?_
    refine j_iload X d_TG_quiet_80 rfl ?_
    refine j_aaldGN X 2 rfl hg (by decide) rfl d_TG_quiet_82 ?_
    refine j_astore X d_TG_quiet_83 (Nat.le_of_ble_eq_true rfl) ?_
    refine j_aload X d_TG_quiet_85 rfl ?_
    refine j_getN X i_Gt (15 + i) (wX_G hg) rfl 2 (by decide) fl_TG_76 rfl d_TG_quiet_87 ?_
    refine j_if_le (tgt := 105) X d_TG_quiet_90 (by decide) (fun h1 => ?_) (fun h1 => ?_)
    · refine j_aload_n X d_TG_quiet_105 rfl ?_
      refine j_aload X d_TG_quiet_106 rfl ?_
      refine j_callVi0 X [.ref (ad (15 + i))] [] (c_TG_asks _ _ _ _ i hg) ok_TG_79 (q0 := 0) rfl rfl rfl (Nat.le_of_ble_eq_true rfl) ⟨Nat.le_of_ble_eq_true rfl, Nat.le_of_ble_eq_true rfl⟩ ⟨rfl, rfl⟩ rfl ⟨Nat.le_of_ble_eq_true rfl, Nat.le_of_ble_eq_true rfl⟩ d_TG_quiet_108 (fun r w1 hw => ?_)
      obtain ⟨rfl, rfl⟩ := hw
      refine j_if_eq (tgt := 118) X d_TG_quiet_111 (by decide) (fun h2 => ?_) (fun h2 => ?_)
      · refine j_iload_n X d_TG_quiet_118 rfl ?_
        refine j_istore_n X d_TG_quiet_119 (Nat.le_of_ble_eq_true rfl) ?_
        refine j_iinc (v := nI (i + 1)) X d_TG_quiet_120 rfl (inc1 _) ?_
        refine j_goto (tgt := 73) X d_TG_quiet_123 (by decide) ?_
        refine j_drop 5 ?_
        refine ih (i + 1) _ (by omega) (hL.gE (fun h => absurd h1 (Int32.not_le.mpr h)) ?_) k
        by_cases e : S 30 0 &&& S 10 i = 0
        · exact e
        · rw [if_neg e] at h2
          exact absurd h2 (by decide)
      · refine j_iconst (v := 1) X d_TG_quiet_114 (by decide) ?_
        refine j_goto (tgt := 119) X d_TG_quiet_115 (by decide) ?_
        refine j_istore_n X d_TG_quiet_119 (Nat.le_of_ble_eq_true rfl) ?_
        refine j_iinc (v := nI (i + 1)) X d_TG_quiet_120 rfl (inc1 _) ?_
        refine j_goto (tgt := 73) X d_TG_quiet_123 (by decide) ?_
        refine j_drop 5 ?_
        exact ih (i + 1) _ (by omega) (hL.gD h1I) k
    · refine j_iload_n X d_TG_quiet_93 rfl ?_
      refine j_aload X d_TG_quiet_94 rfl ?_
      refine j_getN X i_Gt (15 + i) (wX_G hg) rfl 2 (by decide) fl_TG_76 rfl d_TG_quiet_96 ?_
      refine j_mmin X ml_TG_70 d_TG_quiet_99 (Nat.le_of_ble_eq_true rfl) (Nat.le_of_ble_eq_true rfl) (Nat.le_of_ble_eq_true rfl) (Nat.le_of_ble_eq_true rfl) rfl ?_
      refine j_goto (tgt := 119) X d_TG_quiet_102 (by decide) ?_
      refine j_istore_n X d_TG_quiet_119 (Nat.le_of_ble_eq_true rfl) ?_
      refine j_iinc (v := nI (i + 1)) X d_TG_quiet_120 rfl (inc1 _) ?_
      refine j_goto (tgt := 73) X d_TG_quiet_123 (by decide) ?_
      refine j_drop 5 ?_
      exact ih (i + 1) _ (by omega) (hL.gC (Int32.not_le.mp h1)) k
set_option maxHeartbeats 4000000 in
set_option maxRecDepth 100000 in
theorem c_TG_quiet (l : Launch) (G : Gid) (ad : Nat → Nat) (S : St) (h1I : ∀ t, 1 ≤ S 1 t) : CtI l y_TG_quiet b_TG_quiet 6 (some .int) r1 G [.ref (ad 0)] (wX G ad S) 0 0 (fun r w1 => w1 = wX G ad S ∧ QP S r) := by
  refine CtI.of (own := R_TG) (L := [some (.ref (ad 0)), none, none, none, none, none]) (by decide) rfl rfl (Nat.le_of_ble_eq_true rfl) rfl (fun x X => ?_)
  refine j_ldc X cst_TG_69 d_TG_quiet_0 ?_
  refine j_istore_n X d_TG_quiet_2 (Nat.le_of_ble_eq_true rfl) ?_
  refine j_aload_n X d_TG_quiet_3 rfl ?_
  refine j_get X i_TG 0 rfl rfl 0 (by decide) fl_TG_11 rfl d_TG_quiet_4 ?_
  refine j_astore_n X d_TG_quiet_7 (Nat.le_of_ble_eq_true rfl) ?_
  refine j_aload_n X d_TG_quiet_8 rfl ?_
  refine j_alen X 1 2 rfl rfl rfl d_TG_quiet_9 ?_
  refine j_istore_n X d_TG_quiet_10 (Nat.le_of_ble_eq_true rfl) ?_
  refine j_iconst (v := 0) X d_TG_quiet_11 (by decide) ?_
  refine j_istore X d_TG_quiet_12 (Nat.le_of_ble_eq_true rfl) ?_
  refine lp_quiet1 X S h1I 8 0 2147483647 rfl ⟨by decide, fun t h => absurd h (by omega), fun t h => absurd h (by omega), fun t h => absurd h (by omega)⟩ (fun r hr => ?_)
  refine j_aload_n X d_TG_quiet_62 rfl ?_
  refine j_get X i_TG 0 rfl rfl 1 (by decide) fl_TG_17 rfl d_TG_quiet_63 ?_
  refine j_astore_n X d_TG_quiet_66 (Nat.le_of_ble_eq_true rfl) ?_
  refine j_aload_n X d_TG_quiet_67 rfl ?_
  refine j_alen X 2 3 rfl rfl rfl d_TG_quiet_68 ?_
  refine j_istore_n X d_TG_quiet_69 (Nat.le_of_ble_eq_true rfl) ?_
  refine j_iconst (v := 0) X d_TG_quiet_70 (by decide) ?_
  refine j_istore X d_TG_quiet_71 (Nat.le_of_ble_eq_true rfl) ?_
  refine lp_quiet2 X S h1I 4 0 r rfl hr (fun r hr => ?_)
  refine j_iload_n X d_TG_quiet_126 rfl ?_
  exact j_iret X ⟨rfl, hr⟩ d_TG_quiet_127
end
section
theorem tm_A {k : Int32} {n t : Nat} {e : Int32} {S : St} (h : S 2 t = 0) : tm k (n + 1) t e S = tm k n (t + 1) (evE k t S) (evS k t S) := by
  show tm k n (t + 1) (tmE k t e S) (tmS k t e S) = _
  unfold tmE tmS
  rw [if_pos h, if_pos h]
theorem tm_B {k : Int32} {n t : Nat} {e : Int32} {S : St} (h : ¬ S 2 t = 0) (h2 : e = 0) : tm k (n + 1) t e S = tm k n (t + 1) 0 S := by
  show tm k n (t + 1) (tmE k t e S) (tmS k t e S) = _
  unfold tmE tmS
  rw [if_neg h, if_neg h, if_pos h2, if_pos h2]
theorem tm_C {k : Int32} {n t : Nat} {e : Int32} {S : St} (h : ¬ S 2 t = 0) (h2 : ¬ e = 0) : tm k (n + 1) t e S = tm k n (t + 1) (evE 1 t S) (evS 1 t S) := by
  show tm k n (t + 1) (tmE k t e S) (tmS k t e S) = _
  unfold tmE tmS
  rw [if_neg h, if_neg h, if_neg h2, if_neg h2]
theorem add_sub3 (a b c : Int32) : (a - c) + (b - a) = b - c := by
  rw [Int32.sub_eq_add_neg, Int32.sub_eq_add_neg b a, Int32.add_comm b, ← Int32.add_assoc, Int32.add_assoc a, Int32.add_comm (-c), ← Int32.add_assoc, Int32.add_right_neg, Int32.zero_add, Int32.add_comm, ← Int32.sub_eq_add_neg]
set_option maxHeartbeats 4000000 in
set_option maxRecDepth 100000 in
theorem lp_pass1 {x : Ctx} {G : Gid} {ad : Nat → Nat} {Q : State → Prop} (X : Fix x G b_TG_pass 8 R_TG (some .int) r2) (k : Int32) : ∀ (n t : Nat) (e : Int32) (S : St), t + n = 8 → J x G 0 0 Q (wX G ad (tm k n t e S)) 104 [some (.ref (ad 0)), some (.int k), none, none, none, none, none, none] [] → J x G 0 0 Q (wX G ad S) 14 [some (.ref (ad 0)), some (.int k), some (.int e), some (.int (nI t)), none, none, none, none] [] := by
  intro n
  induction n with
  | zero =>
    intro t e S ht kk
    have e8 : t = 8 := by omega
    subst e8
    refine j_iload_n X d_TG_pass_14 rfl ?_
    refine j_bipush (v := 8) X d_TG_pass_15 (by decide) ?_
    refine j_icmp_ge (tgt := 104) X d_TG_pass_17 (by decide) (fun _ => ?_) (fun h => absurd (by decide) h)
    refine j_drop 2 ?_
    refine j_drop 3 ?_
    exact kk
  | succ n ih =>
    intro t e S htn kk
    have ht : t < 8 := by omega
    have tail : ∀ (r : Int32) (S1 : St), J x G 0 0 Q (wX G ad (if r = 0 then S1 else evM t S1)) 14 [some (.ref (ad 0)), some (.int k), some (.int r), some (.int (nI (t + 1))), none, none, none, none] [] → J x G 0 0 Q (wX G ad S1) 63 [some (.ref (ad 0)), some (.int k), some (.int e), some (.int (nI t)), some (.ref (ad (7 + t))), none, none, none] [.int r] := by
      intro r S1 kk
      refine j_istore_n X d_TG_pass_63 (Nat.le_of_ble_eq_true rfl) ?_
      refine j_iload_n X d_TG_pass_64 rfl ?_
      refine j_if_eq (tgt := 98) X d_TG_pass_65 (by decide) (fun h => ?_) (fun h => ?_)
      · rw [if_pos h] at kk
        refine j_iinc (v := nI (t + 1)) X d_TG_pass_98 rfl (inc1 _) ?_
        refine j_goto (tgt := 14) X d_TG_pass_101 (by decide) ?_
        refine j_drop 4 ?_
        exact kk
      · rw [if_neg h] at kk
        refine j_aload X d_TG_pass_68 rfl ?_
        refine j_dup X d_TG_pass_70 rfl ?_
        refine j_getN X i_Tm (7 + t) (wX_T ht) rfl 6 (by decide) fl_TG_89 rfl d_TG_pass_71 ?_
        refine j_aload_n X d_TG_pass_74 rfl ?_
        refine j_get X i_TG 0 rfl rfl 3 (by decide) fl_TG_61 rfl d_TG_pass_75 ?_
        refine j_iload_n X d_TG_pass_78 rfl ?_
        refine j_ishr X d_TG_pass_79 ?_
        refine j_iconst (v := 1) X d_TG_pass_80 (by decide) ?_
        refine j_iand X d_TG_pass_81 ?_
        refine j_iadd X d_TG_pass_82 ?_
        refine j_putN X i_Tm t_Tm t_Tm_ok n_Tm (7 + t) (wX_T ht) rfl 6 (by decide) fl_TG_89 rfl rfl rfl rfl (Nat.le_of_ble_eq_true rfl) d_TG_pass_83 ?_
        refine j_eqw (wX_setT ht (by decide)) ?_
        refine j_aload_n X d_TG_pass_86 rfl ?_
        refine j_dup X d_TG_pass_87 rfl ?_
        refine j_get X i_TG 0 rfl rfl 3 (by decide) fl_TG_61 rfl d_TG_pass_88 ?_
        refine j_iconst (v := 1) X d_TG_pass_91 (by decide) ?_
        refine j_iload_n X d_TG_pass_92 rfl ?_
        refine j_ishl X d_TG_pass_93 ?_
        refine j_ior X d_TG_pass_94 ?_
        refine j_put X i_TG t_TG t_TG_ok n_TG 0 rfl rfl 3 (by decide) fl_TG_61 rfl rfl rfl rfl (Nat.le_of_ble_eq_true rfl) d_TG_pass_95 ?_
        refine j_eqw wX_sta ?_
        refine j_iinc (v := nI (t + 1)) X d_TG_pass_98 rfl (inc1 _) ?_
        refine j_goto (tgt := 14) X d_TG_pass_101 (by decide) ?_
        refine j_drop 4 ?_
        exact kk
    refine j_iload_n X d_TG_pass_14 rfl ?_
    refine j_bipush (v := 8) X d_TG_pass_15 (by decide) ?_
    refine j_icmp_ge (tgt := 104) X d_TG_pass_17 (by decide) (fun h => absurd h ((okT_of ht).2)) (fun _ => ?_)
    refine j_aload_n X d_TG_pass_20 rfl ?_
    refine j_get X i_TG 0 rfl rfl 0 (by decide) fl_TG_11 rfl d_TG_pass_21 ?_
    refine j_iload_n X d_TG_pass_24 rfl ?_
    refine j_aaldTN X 1 rfl ht (by decide) rfl d_TG_pass_25 ?_
    refine j_astore X d_TG_pass_26 (Nat.le_of_ble_eq_true rfl) ?_
    refine j_aload X d_TG_pass_28 rfl ?_
    refine j_getN X i_Tm (7 + t) (wX_T ht) rfl 2 (by decide) fl_TG_35 rfl d_TG_pass_30 ?_
    refine j_if_ne (tgt := 45) X d_TG_pass_33 (by decide) (fun h1 => ?_) (fun h1 => ?_)
    · refine j_iload_n X d_TG_pass_45 rfl ?_
      refine j_if_eq (tgt := 62) X d_TG_pass_46 (by decide) (fun h2 => ?_) (fun h2 => ?_)
      · refine j_iconst (v := 0) X d_TG_pass_62 (by decide) ?_
        refine tail 0 S ?_
        rw [if_pos rfl]
        exact ih (t + 1) 0 S (by omega) (by rw [← tm_B (k := k) h1 h2]; exact kk)
      · refine j_aload X d_TG_pass_49 rfl ?_
        refine j_iconst (v := 1) X d_TG_pass_51 (by decide) ?_
        refine j_callVi0 X [.int 1] [] (c_Tm_comes _ _ _ _ t ht 1) ok_TG_86 (q0 := 7 + t) (wX_T ht) rfl rfl (Nat.le_of_ble_eq_true rfl) ⟨Nat.le_of_ble_eq_true rfl, Nat.le_of_ble_eq_true rfl⟩ ⟨rfl, rfl⟩ rfl ⟨Nat.le_of_ble_eq_true rfl, Nat.le_of_ble_eq_true rfl⟩ d_TG_pass_52 (fun r w1 hw => ?_)
        obtain ⟨rfl, rfl⟩ := hw
        refine j_if_eq (tgt := 62) X d_TG_pass_55 (by decide) (fun h3 => ?_) (fun h3 => ?_)
        · refine j_iconst (v := 0) X d_TG_pass_62 (by decide) ?_
          refine tail 0 _ ?_
          rw [if_pos rfl]
          refine ih (t + 1) 0 _ (by omega) ?_
          rw [tm_C h1 h2, h3, show evS 1 t S = evC 1 t S by unfold evS; rw [if_pos h3]] at kk
          exact kk
        · refine j_iconst (v := 1) X d_TG_pass_58 (by decide) ?_
          refine j_goto (tgt := 63) X d_TG_pass_59 (by decide) ?_
          refine tail 1 _ ?_
          rw [if_neg (by decide)]
          refine ih (t + 1) 1 _ (by omega) ?_
          rw [tm_C h1 h2, (evE_z 1 t S).resolve_left h3, show evS 1 t S = evM t (evC 1 t S) by unfold evS; rw [if_neg h3]] at kk
          exact kk
    · refine j_aload X d_TG_pass_36 rfl ?_
      refine j_iload_n X d_TG_pass_38 rfl ?_
      refine j_callVi0 X [.int k] [] (c_Tm_comes _ _ _ _ t ht k) ok_TG_86 (q0 := 7 + t) (wX_T ht) rfl rfl (Nat.le_of_ble_eq_true rfl) ⟨Nat.le_of_ble_eq_true rfl, Nat.le_of_ble_eq_true rfl⟩ ⟨rfl, rfl⟩ rfl ⟨Nat.le_of_ble_eq_true rfl, Nat.le_of_ble_eq_true rfl⟩ d_TG_pass_39 (fun r w1 hw => ?_)
      obtain ⟨rfl, rfl⟩ := hw
      refine j_goto (tgt := 63) X d_TG_pass_42 (by decide) ?_
      refine tail _ _ ?_
      refine ih (t + 1) _ (evS k t S) (by omega) ?_
      rw [← tm_A (k := k) (e := e) h1]
      exact kk
set_option maxHeartbeats 4000000 in
set_option maxRecDepth 100000 in
theorem lp_pass2 {x : Ctx} {G : Gid} {ad : Nat → Nat} {Q : State → Prop} (X : Fix x G b_TG_pass 8 R_TG (some .int) r2) (k c0 : Int32) : ∀ (n g : Nat) (S : St) (B : Nat), g + n = 4 → (∀ i, ∃ m : Nat, m < 256 ∧ S 10 i = nI m) → Bnd B S → B + n < 2 ^ 31 → J x G 0 0 Q (wX G ad (gt k n g S)) 172 [some (.ref (ad 0)), some (.int k), none, some (.int (gt k n g S 32 0 - c0)), none, none, none, none] [] → J x G 0 0 Q (wX G ad S) 109 [some (.ref (ad 0)), some (.int k), none, some (.int (S 32 0 - c0)), some (.int (nI g)), none, none, none] [] := by
  intro n
  induction n with
  | zero =>
    intro g S B hg hm hB hB2 kk
    have e4 : g = 4 := by omega
    subst e4
    refine j_iload X d_TG_pass_109 rfl ?_
    refine j_iconst (v := 4) X d_TG_pass_111 (by decide) ?_
    refine j_icmp_ge (tgt := 172) X d_TG_pass_112 (by decide) (fun _ => ?_) (fun h => absurd (by decide) h)
    refine j_drop 4 ?_
    exact kk
  | succ n ih =>
    intro g S B hgn hm hB hB2 kk
    have hg : g < 4 := by omega
    have next : ∀ S1 : St, S1 = gtS k g S → J x G 0 0 Q (wX G ad S1) 109 [some (.ref (ad 0)), some (.int k), none, some (.int (S1 32 0 - c0)), some (.int (nI (g + 1))), none, none, none] [] := by
      intro S1 e1
      subst e1
      exact ih (g + 1) _ (B + 1) (by omega) (fun i => by rw [gtS_f (by decide)]; exact hm i) (Bnd.gtS hB) (by omega) kk
    refine j_iload X d_TG_pass_109 rfl ?_
    refine j_iconst (v := 4) X d_TG_pass_111 (by decide) ?_
    refine j_icmp_ge (tgt := 172) X d_TG_pass_112 (by decide) (fun h => absurd h ((okG_of hg).2)) (fun _ => ?_)
    refine j_aload_n X d_TG_pass_115 rfl ?_
    refine j_get X i_TG 0 rfl rfl 1 (by decide) fl_TG_17 rfl d_TG_pass_116 ?_
    refine j_iload X d_TG_pass_119 rfl ?_
    refine j_aaldGN X 2 rfl hg (by decide) rfl d_TG_pass_121 ?_
    refine j_astore X d_TG_pass_122 (Nat.le_of_ble_eq_true rfl) ?_
    refine j_aload X d_TG_pass_124 rfl ?_
    refine j_getN X i_Gt (15 + g) (wX_G hg) rfl 2 (by decide) fl_TG_76 rfl d_TG_pass_126 ?_
    refine j_if_le (tgt := 166) X d_TG_pass_129 (by decide) (fun h1 => ?_) (fun h1 => ?_)
    · refine j_iinc (v := nI (g + 1)) X d_TG_pass_166 rfl (inc1 _) ?_
      refine j_goto (tgt := 109) X d_TG_pass_169 (by decide) ?_
      refine j_drop 5 ?_
      exact next S (by unfold gtS; rw [if_neg (fun h => absurd h1 (Int32.not_le.mpr h))])
    · refine j_aload X d_TG_pass_132 rfl ?_
      refine j_dup X d_TG_pass_134 rfl ?_
      refine j_getN X i_Gt (15 + g) (wX_G hg) rfl 2 (by decide) fl_TG_76 rfl d_TG_pass_135 ?_
      refine j_iload_n X d_TG_pass_138 rfl ?_
      refine j_isub X d_TG_pass_139 ?_
      refine j_putN X i_Gt t_Gt t_Gt_ok n_Gt (15 + g) (wX_G hg) rfl 2 (by decide) fl_TG_76 rfl rfl rfl rfl (Nat.le_of_ble_eq_true rfl) d_TG_pass_140 ?_
      refine j_eqw (wX_setG hg (by decide)) ?_
      refine j_iload_n X d_TG_pass_143 rfl ?_
      refine j_aload X d_TG_pass_144 rfl ?_
      refine j_getN X i_Gt (15 + g) (wX_G hg) rfl 2 (by decide) fl_TG_76 rfl d_TG_pass_146 ?_
      refine j_top up_si ?_
      refine j_if_ne (tgt := 163) X d_TG_pass_149 (by decide) (fun h2 => ?_) (fun h2 => ?_)
      · refine j_iconst (v := 0) X d_TG_pass_163 (by decide) ?_
        refine j_iadd X d_TG_pass_164 ?_
        refine j_top (Int32.add_zero _) ?_
        refine j_istore_n X d_TG_pass_165 (Nat.le_of_ble_eq_true rfl) ?_
        refine j_iinc (v := nI (g + 1)) X d_TG_pass_166 rfl (inc1 _) ?_
        refine j_goto (tgt := 109) X d_TG_pass_169 (by decide) ?_
        refine j_drop 5 ?_
        exact next _ (by unfold gtS; rw [if_pos (Int32.not_le.mp h1), if_neg h2])
      · obtain ⟨c, hc, hc1⟩ := id hB
        refine j_aload_n X d_TG_pass_152 rfl ?_
        refine j_aload X d_TG_pass_153 rfl ?_
        refine j_iload X d_TG_pass_155 rfl ?_
        refine j_callVi0 X [.ref (ad (15 + g)), .int (nI g)] [.int (S 32 0 - c0)] (c_TG_serve _ _ _ (up S 12 g (S 12 g - k)) g hg (hm g) c hc1 (by omega)) ok_TG_92 (q0 := 0) rfl rfl rfl (Nat.le_of_ble_eq_true rfl) ⟨Nat.le_of_ble_eq_true rfl, Nat.le_of_ble_eq_true rfl⟩ ⟨rfl, rfl⟩ rfl ⟨Nat.le_of_ble_eq_true rfl, Nat.le_of_ble_eq_true rfl⟩ d_TG_pass_157 (fun r w1 hw => ?_)
        obtain ⟨rfl, rfl⟩ := hw
        refine j_goto (tgt := 164) X d_TG_pass_160 (by decide) ?_
        refine j_iadd X d_TG_pass_164 ?_
        refine j_top (add_sub3 (S 32 0) _ c0) ?_
        refine j_istore_n X d_TG_pass_165 (Nat.le_of_ble_eq_true rfl) ?_
        refine j_iinc (v := nI (g + 1)) X d_TG_pass_166 rfl (inc1 _) ?_
        refine j_goto (tgt := 109) X d_TG_pass_169 (by decide) ?_
        refine j_drop 5 ?_
        exact next _ (by unfold gtS; rw [if_pos (Int32.not_le.mp h1), if_pos h2])
set_option maxHeartbeats 4000000 in
set_option maxRecDepth 100000 in
theorem lp_pass3 {x : Ctx} {G : Gid} {ad : Nat → Nat} {Q : State → Prop} (X : Fix x G b_TG_pass 8 R_TG (some .int) r2) (k many : Int32) : ∀ (n g : Nat) (S : St), g + n = 4 → J x G 0 0 Q (wX G ad (wt n g S)) 233 [some (.ref (ad 0)), some (.int k), none, some (.int many), some (.ref (ad 2)), some (.int 4), some (.int (nI 4)), none] [] → J x G 0 0 Q (wX G ad S) 186 [some (.ref (ad 0)), some (.int k), none, some (.int many), some (.ref (ad 2)), some (.int 4), some (.int (nI g)), none] [] := by
  intro n
  induction n with
  | zero =>
    intro g S hg kk
    have e4 : g = 4 := by omega
    subst e4
    refine j_iload X d_TG_pass_186 rfl ?_
    refine j_iload X d_TG_pass_188 rfl ?_
    refine j_icmp_ge (tgt := 233) X d_TG_pass_190 (by decide) (fun _ => ?_) (fun h => absurd (by decide) h)
    exact kk
  | succ n ih =>
    intro g S hgn kk
    have hg : g < 4 := by omega
    have next : ∀ S1 : St, S1 = wtS g S → J x G 0 0 Q (wX G ad S1) 186 [some (.ref (ad 0)), some (.int k), none, some (.int many), some (.ref (ad 2)), some (.int 4), some (.int (nI (g + 1))), none] [] := by
      intro S1 e1
      subst e1
      exact ih (g + 1) _ (by omega) kk
    refine j_iload X d_TG_pass_186 rfl ?_
    refine j_iload X d_TG_pass_188 rfl ?_
    refine j_icmp_ge (tgt := 233) X d_TG_pass_190 (by decide) (fun h => absurd h ((okG_of hg).2)) (fun _ => ?_)
    refine j_aload X d_TG_pass_193 rfl ?_
    refine j_iload X d_TG_pass_195 rfl ?_
    refine j_aaldGN X 2 rfl hg (by decide) rfl d_TG_pass_197 ?_
    refine j_astore X d_TG_pass_198 (Nat.le_of_ble_eq_true rfl) ?_
    refine j_aload X d_TG_pass_200 rfl ?_
    refine j_getN X i_Gt (15 + g) (wX_G hg) rfl 2 (by decide) fl_TG_76 rfl d_TG_pass_202 ?_
    refine j_if_ne (tgt := 227) X d_TG_pass_205 (by decide) (fun h1 => ?_) (fun h1 => ?_)
    · refine j_iinc (v := nI (g + 1)) X d_TG_pass_227 rfl (inc1 _) ?_
      refine j_goto (tgt := 186) X d_TG_pass_230 (by decide) ?_
      refine j_drop 7 ?_
      exact next _ (by unfold wtS; rw [if_neg h1])
    · refine j_aload_n X d_TG_pass_208 rfl ?_
      refine j_aload X d_TG_pass_209 rfl ?_
      refine j_callVi0 X [.ref (ad (15 + g))] [] (c_TG_asks _ _ _ _ g hg) ok_TG_79 (q0 := 0) rfl rfl rfl (Nat.le_of_ble_eq_true rfl) ⟨Nat.le_of_ble_eq_true rfl, Nat.le_of_ble_eq_true rfl⟩ ⟨rfl, rfl⟩ rfl ⟨Nat.le_of_ble_eq_true rfl, Nat.le_of_ble_eq_true rfl⟩ d_TG_pass_211 (fun r w1 hw => ?_)
      obtain ⟨rfl, rfl⟩ := hw
      by_cases hA : S 30 0 &&& S 10 g = 0
      · refine j_if_eq (tgt := 227) X d_TG_pass_214 (by decide) (fun _ => ?_) (fun h => absurd (if_pos hA) h)
        refine j_iinc (v := nI (g + 1)) X d_TG_pass_227 rfl (inc1 _) ?_
        refine j_goto (tgt := 186) X d_TG_pass_230 (by decide) ?_
        refine j_drop 7 ?_
        exact next _ (by unfold wtS; rw [if_pos h1, if_pos hA])
      · refine j_if_eq (tgt := 227) X d_TG_pass_214 (by decide) (fun h => absurd h (by rw [if_neg hA]; decide)) (fun _ => ?_)
        refine j_aload X d_TG_pass_217 rfl ?_
        refine j_aload X d_TG_pass_219 rfl ?_
        refine j_getN X i_Gt (15 + g) (wX_G hg) rfl 1 (by decide) fl_TG_58 rfl d_TG_pass_221 ?_
        refine j_putN X i_Gt t_Gt t_Gt_ok n_Gt (15 + g) (wX_G hg) rfl 2 (by decide) fl_TG_76 rfl rfl rfl rfl (Nat.le_of_ble_eq_true rfl) d_TG_pass_224 ?_
        refine j_eqw (wX_setG hg (by decide)) ?_
        refine j_iinc (v := nI (g + 1)) X d_TG_pass_227 rfl (inc1 _) ?_
        refine j_goto (tgt := 186) X d_TG_pass_230 (by decide) ?_
        refine j_drop 7 ?_
        exact next _ (by unfold wtS; rw [if_pos h1, if_neg hA])
set_option maxHeartbeats 4000000 in
set_option maxRecDepth 100000 in
theorem c_TG_pass (l : Launch) (G : Gid) (ad : Nat → Nat) (S : St) (hm : ∀ i, ∃ m : Nat, m < 256 ∧ S 10 i = nI m) (B : Nat) (hB : Bnd B S) (hB2 : B + 4 < 2 ^ 31) (k : Int32) : CtI l y_TG_pass b_TG_pass 8 (some .int) r2 G [.ref (ad 0), .int k] (wX G ad S) 0 0 (fun r w => w = wX G ad (passS k S) ∧ r = passS k S 32 0 - S 32 0) := by
  refine CtI.of (own := R_TG) (L := [some (.ref (ad 0)), some (.int k), none, none, none, none, none, none]) (by decide) rfl rfl (Nat.le_of_ble_eq_true rfl) rfl (fun x X => ?_)
  refine j_aload_n X d_TG_pass_0 rfl ?_
  refine j_dup X d_TG_pass_1 rfl ?_
  refine j_get X i_TG 0 rfl rfl 4 (by decide) fl_TG_83 rfl d_TG_pass_2 ?_
  refine j_iload_n X d_TG_pass_5 rfl ?_
  refine j_iadd X d_TG_pass_6 ?_
  refine j_put X i_TG t_TG t_TG_ok n_TG 0 rfl rfl 4 (by decide) fl_TG_83 rfl rfl rfl rfl (Nat.le_of_ble_eq_true rfl) d_TG_pass_7 ?_
  refine j_eqw wX_now ?_
  refine j_iconst (v := 0) X d_TG_pass_10 (by decide) ?_
  refine j_istore_n X d_TG_pass_11 (Nat.le_of_ble_eq_true rfl) ?_
  refine j_iconst (v := 0) X d_TG_pass_12 (by decide) ?_
  refine j_istore_n X d_TG_pass_13 (Nat.le_of_ble_eq_true rfl) ?_
  refine lp_pass1 X k 8 0 0 _ rfl ?_
  generalize hS1 : tm k 8 0 0 (up S 31 0 (S 31 0 + k)) = S1
  have e32 : S1 32 0 = S 32 0 := by rw [← hS1, tm_f (by decide) (by decide) (by decide) (by decide) (by decide)]; rfl
  have e10 : S1 10 = S 10 := by rw [← hS1, tm_f (by decide) (by decide) (by decide) (by decide) (by decide)]; rfl
  have hB1 : Bnd B S1 := by obtain ⟨c, h1, h2⟩ := hB; exact ⟨c, h1, by rw [e32]; exact h2⟩
  refine j_iconst (v := 0) X d_TG_pass_104 (by decide) ?_
  refine j_top (v' := S1 32 0 - S 32 0) (by rw [e32]; exact (Int32.sub_self (a := S 32 0)).symm) ?_
  refine j_istore_n X d_TG_pass_105 (Nat.le_of_ble_eq_true rfl) ?_
  refine j_iconst (v := 0) X d_TG_pass_106 (by decide) ?_
  refine j_istore X d_TG_pass_107 (Nat.le_of_ble_eq_true rfl) ?_
  refine lp_pass2 X k (S 32 0) 4 0 S1 B rfl (fun i => by rw [e10]; exact hm i) hB1 (by omega) ?_
  generalize hS2 : gt k 4 0 S1 = S2
  refine j_aload_n X d_TG_pass_172 rfl ?_
  refine j_get X i_TG 0 rfl rfl 1 (by decide) fl_TG_17 rfl d_TG_pass_173 ?_
  refine j_astore X d_TG_pass_176 (Nat.le_of_ble_eq_true rfl) ?_
  refine j_aload X d_TG_pass_178 rfl ?_
  refine j_alen X 2 3 rfl rfl rfl d_TG_pass_180 ?_
  refine j_istore X d_TG_pass_181 (Nat.le_of_ble_eq_true rfl) ?_
  refine j_iconst (v := 0) X d_TG_pass_183 (by decide) ?_
  refine j_istore X d_TG_pass_184 (Nat.le_of_ble_eq_true rfl) ?_
  refine lp_pass3 X k _ 4 0 S2 rfl ?_
  refine j_iload_n X d_TG_pass_233 rfl ?_
  have e : passS k S = wt 4 0 S2 := by unfold passS; rw [hS1, hS2]
  exact j_iret X ⟨by rw [e], by rw [e, wt_f (by decide)]⟩ d_TG_pass_234
end
section
/-! ===== the plain law: so many quiet ticks at once are so many ticks ===== -/
theorem up_up {S : St} {f i : Nat} {v w : Int32} : up (up S f i v) f i w = up S f i w := by
  funext a b
  by_cases h : a = f
  · subst h
    by_cases h2 : b = i
    · subst h2; rw [up_si, up_si]
    · rw [up_sn h2, up_sn h2, up_sn h2]
  · rw [up_f h, up_f h, up_f h]
theorem up_comm {S : St} {f i g j : Nat} {v w : Int32} (h : f ≠ g ∨ i ≠ j) : up (up S f i v) g j w = up (up S g j w) f i v := by
  funext a b
  by_cases hf : a = f
  · by_cases hg : a = g
    · subst hf
      subst hg
      have hij : i ≠ j := h.resolve_left (fun z => z rfl)
      by_cases hb : b = i
      · subst hb
        rw [up_sn hij, up_si, up_si]
      · by_cases hb2 : b = j
        · subst hb2
          rw [up_si, up_sn hb, up_si]
        · rw [up_sn hb2, up_sn hb, up_sn hb, up_sn hb2]
    · subst hf
      rw [up_f hg]
      by_cases hb : b = i
      · subst hb; rw [up_si, up_si]
      · rw [up_sn hb, up_sn hb, up_f hg]
  · by_cases hg : a = g
    · subst hg
      rw [up_f hf]
      by_cases hb : b = j
      · subst hb; rw [up_si, up_si]
      · rw [up_sn hb, up_sn hb, up_f hf]
    · rw [up_f hg, up_f hf, up_f hf, up_f hg]
theorem o12_1 {S : St} {g i : Nat} {v w : Int32} : up (up S 12 g w) 1 i v = up (up S 1 i v) 12 g w := up_comm (Or.inl (by decide))
theorem o12_3 {S : St} {g i : Nat} {v w : Int32} : up (up S 12 g w) 3 i v = up (up S 3 i v) 12 g w := up_comm (Or.inl (by decide))
theorem o12_5 {S : St} {g i : Nat} {v w : Int32} : up (up S 12 g w) 5 i v = up (up S 5 i v) 12 g w := up_comm (Or.inl (by decide))
theorem o12_6 {S : St} {g i : Nat} {v w : Int32} : up (up S 12 g w) 6 i v = up (up S 6 i v) 12 g w := up_comm (Or.inl (by decide))
theorem o12_30 {S : St} {g i : Nat} {v w : Int32} : up (up S 12 g w) 30 i v = up (up S 30 i v) 12 g w := up_comm (Or.inl (by decide))
theorem o12_31 {S : St} {g i : Nat} {v w : Int32} : up (up S 12 g w) 31 i v = up (up S 31 i v) 12 g w := up_comm (Or.inl (by decide))
theorem o12_14 {S : St} {g i : Nat} {v w : Int32} : up (up S 12 g w) 14 i v = up (up S 14 i v) 12 g w := up_comm (Or.inl (by decide))
theorem o12_7 {S : St} {g i : Nat} {v w : Int32} : up (up S 12 g w) 7 i v = up (up S 7 i v) 12 g w := up_comm (Or.inl (by decide))
theorem o12_13 {S : St} {g i : Nat} {v w : Int32} : up (up S 12 g w) 13 i v = up (up S 13 i v) 12 g w := up_comm (Or.inl (by decide))
theorem o12_15 {S : St} {g i : Nat} {v w : Int32} : up (up S 12 g w) 15 i v = up (up S 15 i v) 12 g w := up_comm (Or.inl (by decide))
theorem o12_20 {S : St} {g i : Nat} {v w : Int32} : up (up S 12 g w) 20 i v = up (up S 20 i v) 12 g w := up_comm (Or.inl (by decide))
theorem o12_21 {S : St} {g i : Nat} {v w : Int32} : up (up S 12 g w) 21 i v = up (up S 21 i v) 12 g w := up_comm (Or.inl (by decide))
theorem o12_22 {S : St} {g i : Nat} {v w : Int32} : up (up S 12 g w) 22 i v = up (up S 22 i v) 12 g w := up_comm (Or.inl (by decide))
theorem o12_32 {S : St} {g i : Nat} {v w : Int32} : up (up S 12 g w) 32 i v = up (up S 32 i v) 12 g w := up_comm (Or.inl (by decide))
theorem o1_3 {S : St} {g i : Nat} {v w : Int32} : up (up S 1 g w) 3 i v = up (up S 3 i v) 1 g w := up_comm (Or.inl (by decide))
theorem o1_5 {S : St} {g i : Nat} {v w : Int32} : up (up S 1 g w) 5 i v = up (up S 5 i v) 1 g w := up_comm (Or.inl (by decide))
theorem o1_6 {S : St} {g i : Nat} {v w : Int32} : up (up S 1 g w) 6 i v = up (up S 6 i v) 1 g w := up_comm (Or.inl (by decide))
theorem o1_30 {S : St} {g i : Nat} {v w : Int32} : up (up S 1 g w) 30 i v = up (up S 30 i v) 1 g w := up_comm (Or.inl (by decide))
theorem o1_31 {S : St} {g i : Nat} {v w : Int32} : up (up S 1 g w) 31 i v = up (up S 31 i v) 1 g w := up_comm (Or.inl (by decide))
theorem o1_1 {S : St} {u t : Nat} {v w : Int32} (h : u ≠ t) : up (up S 1 u w) 1 t v = up (up S 1 t v) 1 u w := up_comm (Or.inr h)
theorem o12_12 {S : St} {u t : Nat} {v w : Int32} (h : u ≠ t) : up (up S 12 u w) 12 t v = up (up S 12 t v) 12 u w := up_comm (Or.inr h)
def skT (t : Nat) (S : St) : St := if ¬ S 3 t = 0 ∧ S 2 t = 0 then up S 1 t (S 1 t - 1) else S
def skTs : Nat → Nat → St → St
  | 0, _, S => S
  | n + 1, t, S => skTs n (t + 1) (skT t S)
def skG (g : Nat) (S : St) : St := if 0 < S 12 g then up S 12 g (S 12 g - 1) else S
def skGs : Nat → Nat → St → St
  | 0, _, S => S
  | n + 1, g, S => skGs n (g + 1) (skG g S)
def skip1 (S : St) : St := skGs 4 0 (skTs 8 0 (up S 31 0 (S 31 0 + 1)))
theorem skT_A {t : Nat} {S : St} (h : act S t) : skT t S = up S 1 t (S 1 t - 1) := if_pos h
theorem skT_B {t : Nat} {S : St} (h : ¬ act S t) : skT t S = S := if_neg h
theorem skG_A {g : Nat} {S : St} (h : 0 < S 12 g) : skG g S = up S 12 g (S 12 g - 1) := if_pos h
theorem skG_B {g : Nat} {S : St} (h : ¬ 0 < S 12 g) : skG g S = S := if_neg h
theorem skT_f {t : Nat} {S : St} {f : Nat} (h : f ≠ 1) : skT t S f = S f := by
  unfold skT; split
  · exact up_f h
  · rfl
theorem skT_1 {t u : Nat} {S : St} (h : u ≠ t) : skT t S 1 u = S 1 u := by
  unfold skT; split
  · exact up_sn h
  · rfl
theorem skTs_f {f : Nat} (h : f ≠ 1) : ∀ (n t : Nat) (S : St), skTs n t S f = S f
  | 0, _, _ => rfl
  | n + 1, t, S => by show skTs n (t + 1) (skT t S) f = S f; rw [skTs_f h n, skT_f h]
theorem skTs_lo : ∀ (n t u : Nat) (S : St), u < t → skTs n t S 1 u = S 1 u
  | 0, _, _, _, _ => rfl
  | n + 1, t, u, S, h => by show skTs n (t + 1) (skT t S) 1 u = S 1 u; rw [skTs_lo n (t + 1) u _ (by omega), skT_1 (by omega)]
theorem act_skT {t u : Nat} {S : St} : act (skT t S) u ↔ act S u := by
  unfold act; rw [skT_f (by decide), skT_f (by decide)]
theorem act_skTs {n t u : Nat} {S : St} : act (skTs n t S) u ↔ act S u := by
  unfold act; rw [skTs_f (by decide), skTs_f (by decide)]
theorem skTs_at : ∀ (n t u : Nat) (S : St), t ≤ u → u < t + n → act S u → skTs n t S 1 u = S 1 u - 1
  | 0, _, _, _, _, _, _ => by omega
  | n + 1, t, u, S, h1, h2, h3 => by
    show skTs n (t + 1) (skT t S) 1 u = S 1 u - 1
    by_cases e : u = t
    · subst e
      rw [skTs_lo n (u + 1) u _ (by omega), skT_A h3, up_si]
    · rw [skTs_at n (t + 1) u _ (by omega) (by omega) (act_skT.mpr h3), skT_1 e]
theorem skG_f {g : Nat} {S : St} {f : Nat} (h : f ≠ 12) : skG g S f = S f := by
  unfold skG; split
  · exact up_f h
  · rfl
theorem skG_12 {g u : Nat} {S : St} (h : u ≠ g) : skG g S 12 u = S 12 u := by
  unfold skG; split
  · exact up_sn h
  · rfl
theorem skGs_f {f : Nat} (h : f ≠ 12) : ∀ (n g : Nat) (S : St), skGs n g S f = S f
  | 0, _, _ => rfl
  | n + 1, g, S => by show skGs n (g + 1) (skG g S) f = S f; rw [skGs_f h n, skG_f h]
theorem skGs_lo : ∀ (n g u : Nat) (S : St), u < g → skGs n g S 12 u = S 12 u
  | 0, _, _, _, _ => rfl
  | n + 1, g, u, S, h => by show skGs n (g + 1) (skG g S) 12 u = S 12 u; rw [skGs_lo n (g + 1) u _ (by omega), skG_12 (by omega)]
theorem skGs_at : ∀ (n g u : Nat) (S : St), g ≤ u → u < g + n → skGs n g S 12 u = (if 0 < S 12 u then S 12 u - 1 else S 12 u)
  | 0, _, _, _, _, _ => by omega
  | n + 1, g, u, S, h1, h2 => by
    show skGs n (g + 1) (skG g S) 12 u = _
    by_cases e : u = g
    · subst e
      rw [skGs_lo n (u + 1) u _ (by omega)]
      by_cases h : 0 < S 12 u
      · rw [skG_A h, up_si, if_pos h]
      · rw [skG_B h, if_neg h]
    · rw [skGs_at n (g + 1) u _ (by omega) (by omega), skG_12 e]
/-! one tick in which nothing but counting happens -/
theorem tmE_q {t : Nat} {S : St} (h : act S t → 0 < S 1 t - 1) : tmE 1 t 0 S = 0 := by
  unfold tmE
  by_cases h2 : S 2 t = 0
  · rw [if_pos h2]
    unfold evE
    by_cases h3 : S 3 t = 0
    · rw [if_pos h3]
    · rw [if_neg h3, if_pos (h ⟨h3, h2⟩)]
  · rw [if_neg h2, if_pos rfl]
theorem tmS_q {t : Nat} {S : St} (h : act S t → 0 < S 1 t - 1) : tmS 1 t 0 S = skT t S := by
  unfold tmS
  by_cases h2 : S 2 t = 0
  · rw [if_pos h2]
    unfold evS evE evC
    by_cases h3 : S 3 t = 0
    · rw [if_pos h3, if_pos rfl, if_pos h3, skT_B (fun z => z.1 h3)]
    · rw [if_neg h3, if_pos (h ⟨h3, h2⟩), if_pos rfl, if_neg h3, if_pos (h ⟨h3, h2⟩), skT_A ⟨h3, h2⟩]
  · rw [if_neg h2, if_pos rfl, skT_B (fun z => h2 z.2)]
theorem tm_q : ∀ (n t : Nat) (S : St), (∀ u, t ≤ u → u < t + n → act S u → 0 < S 1 u - 1) → tm 1 n t 0 S = skTs n t S
  | 0, _, _, _ => rfl
  | n + 1, t, S, h => by
    show tm 1 n (t + 1) (tmE 1 t 0 S) (tmS 1 t 0 S) = skTs n (t + 1) (skT t S)
    rw [tmE_q (h t (by omega) (by omega)), tmS_q (h t (by omega) (by omega))]
    exact tm_q n (t + 1) _ (fun u h1 h2 h3 => by rw [skT_1 (by omega)]; exact h u (by omega) (by omega) (act_skT.mp h3))
theorem gtS_q {g : Nat} {S : St} (h : 0 < S 12 g → ¬ S 12 g - 1 = 0) : gtS 1 g S = skG g S := by
  unfold gtS
  by_cases h2 : 0 < S 12 g
  · rw [if_pos h2, if_neg (h h2), skG_A h2]
  · rw [if_neg h2, skG_B h2]
theorem gt_q : ∀ (n g : Nat) (S : St), (∀ u, g ≤ u → u < g + n → 0 < S 12 u → ¬ S 12 u - 1 = 0) → gt 1 n g S = skGs n g S
  | 0, _, _, _ => rfl
  | n + 1, g, S, h => by
    show gt 1 n (g + 1) (gtS 1 g S) = skGs n (g + 1) (skG g S)
    rw [gtS_q (h g (by omega) (by omega))]
    exact gt_q n (g + 1) _ (fun u h1 h2 h3 => by rw [skG_12 (by omega)] at h3 ⊢; exact h u (by omega) (by omega) h3)
theorem wt_q : ∀ (n g : Nat) (S : St), (∀ u, g ≤ u → u < g + n → S 12 u = 0 → S 30 0 &&& S 10 u = 0) → wt n g S = S
  | 0, _, _, _ => rfl
  | n + 1, g, S, h => by
    show wt n (g + 1) (wtS g S) = S
    have e : wtS g S = S := by
      unfold wtS
      by_cases h2 : S 12 g = 0
      · rw [if_pos h2, if_pos (h g (by omega) (by omega) h2)]
      · rw [if_neg h2]
    rw [e]
    exact wt_q n (g + 1) S (fun u h1 h2 h3 => h u (by omega) (by omega) h3)
theorem tick_q {S : St} (h1 : ∀ t, t < 8 → act S t → 0 < S 1 t - 1) (h2 : ∀ g, g < 4 → 0 < S 12 g → ¬ S 12 g - 1 = 0) (h3 : ∀ g, g < 4 → ¬ 0 < S 12 g → S 30 0 &&& S 10 g = 0) : tick S = skip1 S := by
  unfold tick passS skip1
  rw [tm_q 8 0 (up S 31 0 (S 31 0 + 1)) (fun u _ hu ha => h1 u (by omega) ha), gt_q 4 0 _ (fun u _ hu ha => by
    rw [skTs_f (by decide)] at ha ⊢
    exact h2 u (by omega) ha), wt_q 4 0 _ (fun u _ hu e => ?_)]
  rw [skGs_at 4 0 u _ (by omega) hu, skTs_f (by decide)] at e
  have e' : (if 0 < S 12 u then S 12 u - 1 else S 12 u) = 0 := e
  rw [skGs_f (by decide), skGs_f (by decide), skTs_f (by decide), skTs_f (by decide)]
  show S 30 0 &&& S 10 u = 0
  by_cases hp : 0 < S 12 u
  · rw [if_pos hp] at e'
    exact absurd e' (h2 u (by omega) hp)
  · exact h3 u (by omega) hp
/-! a skip first, then k at once: the same as k + 1 at once -/
theorem sub_sub1 (a k : Int32) : a - 1 - k = a - (k + 1) := by
  grind
theorem evE_skT {k : Int32} {t : Nat} {S : St} (h : act S t) : evE k t (up S 1 t (S 1 t - 1)) = evE (k + 1) t S := by
  unfold evE
  rw [up_si, sub_sub1]
  rfl
theorem evC_skT {k : Int32} {t : Nat} {S : St} (h : act S t) : evC k t (up S 1 t (S 1 t - 1)) = evC (k + 1) t S := by
  unfold evC
  rw [up_si, sub_sub1, up_up]
  show (if S 3 t = 0 then up S 1 t (S 1 t - 1) else _) = _
  rw [if_neg h.1, if_neg h.1]
  rfl
theorem evS_skT {k : Int32} {t : Nat} {S : St} (h : act S t) : evS k t (up S 1 t (S 1 t - 1)) = evS (k + 1) t S := by
  unfold evS
  rw [evE_skT h, evC_skT h]
theorem evE_0 {k : Int32} {t : Nat} {S : St} (h : S 3 t = 0) : evE k t S = 0 := by unfold evE; rw [if_pos h]
theorem evS_0 {k : Int32} {t : Nat} {S : St} (h : S 3 t = 0) : evS k t S = S := by unfold evS; rw [if_pos (evE_0 h)]; unfold evC; rw [if_pos h]
theorem tmE_skT {k e : Int32} {t : Nat} {S : St} : tmE k t e (skT t S) = tmE (k + 1) t e S := by
  by_cases h : act S t
  · rw [skT_A h]
    unfold tmE
    rw [evE_skT h]
    show (if S 2 t = 0 then _ else _) = _
    rw [if_pos h.2, if_pos h.2]
  · rw [skT_B h]
    unfold tmE
    by_cases h2 : S 2 t = 0
    · have h3 : S 3 t = 0 := Classical.byContradiction fun z => h ⟨z, h2⟩
      rw [if_pos h2, if_pos h2, evE_0 h3, evE_0 h3]
    · rw [if_neg h2, if_neg h2]
theorem tmS_skT {k e : Int32} {t : Nat} {S : St} : tmS k t e (skT t S) = tmS (k + 1) t e S := by
  by_cases h : act S t
  · rw [skT_A h]
    unfold tmS
    rw [evS_skT h]
    show (if S 2 t = 0 then _ else _) = _
    rw [if_pos h.2, if_pos h.2]
  · rw [skT_B h]
    unfold tmS
    by_cases h2 : S 2 t = 0
    · have h3 : S 3 t = 0 := Classical.byContradiction fun z => h ⟨z, h2⟩
      rw [if_pos h2, if_pos h2, evS_0 h3, evS_0 h3]
    · rw [if_neg h2, if_neg h2]
theorem evE_u {k : Int32} {t u : Nat} {S : St} {w : Int32} (h : u ≠ t) : evE k t (up S 1 u w) = evE k t S := by
  unfold evE
  rw [up_sn (Ne.symm h)]
  rfl
theorem evC_u {k : Int32} {t u : Nat} {S : St} {w : Int32} (h : u ≠ t) : evC k t (up S 1 u w) = up (evC k t S) 1 u w := by
  unfold evC
  rw [up_sn (Ne.symm h)]
  show (if S 3 t = 0 then up S 1 u w else if 0 < S 1 t - k then up (up S 1 u w) 1 t (S 1 t - k) else up (up (up (up (up S 1 u w) 1 t (S 1 t - k)) 1 t (S 0 t)) 3 t (if S 4 t = 0 then 1 else 0)) 5 t (S 5 t + 1)) = _
  by_cases h3 : S 3 t = 0
  · rw [if_pos h3, if_pos h3]
  · rw [if_neg h3, if_neg h3]
    by_cases h4 : 0 < S 1 t - k
    · rw [if_pos h4, if_pos h4, o1_1 h]
    · rw [if_neg h4, if_neg h4, o1_1 h, o1_1 h, o1_3, o1_5]
theorem evM_u {t u : Nat} {S : St} {w : Int32} : evM t (up S 1 u w) = up (evM t S) 1 u w := by
  unfold evM
  rw [o1_6, o1_30]
  rfl
theorem evS_u {k : Int32} {t u : Nat} {S : St} {w : Int32} (h : u ≠ t) : evS k t (up S 1 u w) = up (evS k t S) 1 u w := by
  unfold evS
  rw [evE_u h, evC_u h]
  by_cases e : evE k t S = 0
  · rw [if_pos e, if_pos e]
  · rw [if_neg e, if_neg e, evM_u]
theorem tmE_u {k e : Int32} {t u : Nat} {S : St} {w : Int32} (h : u ≠ t) : tmE k t e (up S 1 u w) = tmE k t e S := by
  unfold tmE
  rw [evE_u h, evE_u h]
  rfl
theorem tmS_u {k e : Int32} {t u : Nat} {S : St} {w : Int32} (h : u ≠ t) : tmS k t e (up S 1 u w) = up (tmS k t e S) 1 u w := by
  unfold tmS
  rw [evS_u h, evS_u h]
  show (if S 2 t = 0 then _ else _) = _
  by_cases h2 : S 2 t = 0
  · rw [if_pos h2, if_pos h2]
  · rw [if_neg h2, if_neg h2]
    by_cases h3 : e = 0
    · rw [if_pos h3, if_pos h3]
    · rw [if_neg h3, if_neg h3]
theorem evC_3 {k : Int32} {t u : Nat} {S : St} (h : u ≠ t) : evC k t S 3 u = S 3 u := by
  unfold evC
  split
  · rfl
  · split
    · rfl
    · rw [up_f (by decide), up_sn h]; rfl
theorem evS_3 {k : Int32} {t u : Nat} {S : St} (h : u ≠ t) : evS k t S 3 u = S 3 u := by
  unfold evS
  split
  · exact evC_3 h
  · rw [evM_f (by decide) (by decide), evC_3 h]
theorem tmS_3 {k e : Int32} {t u : Nat} {S : St} (h : u ≠ t) : tmS k t e S 3 u = S 3 u := by
  unfold tmS
  split
  · exact evS_3 h
  · split
    · rfl
    · exact evS_3 h
theorem evC_1 {k : Int32} {t u : Nat} {S : St} (h : u ≠ t) : evC k t S 1 u = S 1 u := by
  unfold evC
  split
  · rfl
  · split
    · exact up_sn h
    · rw [up_f (by decide), up_f (by decide), up_sn h, up_sn h]
theorem evS_1 {k : Int32} {t u : Nat} {S : St} (h : u ≠ t) : evS k t S 1 u = S 1 u := by
  unfold evS
  split
  · exact evC_1 h
  · rw [evM_f (by decide) (by decide), evC_1 h]
theorem tmS_1 {k e : Int32} {t u : Nat} {S : St} (h : u ≠ t) : tmS k t e S 1 u = S 1 u := by
  unfold tmS
  split
  · exact evS_1 h
  · split
    · rfl
    · exact evS_1 h
theorem act_tmS {k e : Int32} {t u : Nat} {S : St} (h : u ≠ t) : act (tmS k t e S) u ↔ act S u := by
  unfold act
  rw [tmS_3 h, tmS_f (by decide) (by decide) (by decide) (by decide) (by decide)]
theorem tmE_sk {k e : Int32} {t u : Nat} {S : St} (h : u ≠ t) : tmE k t e (skT u S) = tmE k t e S := by
  by_cases ha : act S u
  · rw [skT_A ha, tmE_u h]
  · rw [skT_B ha]
theorem tmS_sk {k e : Int32} {t u : Nat} {S : St} (h : u ≠ t) : tmS k t e (skT u S) = skT u (tmS k t e S) := by
  by_cases ha : act S u
  · rw [skT_A ha, tmS_u h, skT_A ((act_tmS h).mpr ha), tmS_1 h]
  · rw [skT_B ha, skT_B (fun z => ha ((act_tmS h).mp z))]
theorem tmE_sks {k e : Int32} {t : Nat} : ∀ (n u : Nat) (S : St), t < u → tmE k t e (skTs n u S) = tmE k t e S
  | 0, _, _, _ => rfl
  | n + 1, u, S, h => by show tmE k t e (skTs n (u + 1) (skT u S)) = _; rw [tmE_sks n (u + 1) _ (by omega), tmE_sk (by omega)]
theorem tmS_sks {k e : Int32} {t : Nat} : ∀ (n u : Nat) (S : St), t < u → tmS k t e (skTs n u S) = skTs n u (tmS k t e S)
  | 0, _, _, _ => rfl
  | n + 1, u, S, h => by
    show tmS k t e (skTs n (u + 1) (skT u S)) = skTs n (u + 1) (skT u (tmS k t e S))
    rw [tmS_sks n (u + 1) _ (by omega), tmS_sk (by omega)]
theorem tm_sh {k : Int32} : ∀ (n t : Nat) (e : Int32) (S : St), tm k n t e (skTs n t S) = tm (k + 1) n t e S
  | 0, _, _, _ => rfl
  | n + 1, t, e, S => by
    show tm k n (t + 1) (tmE k t e (skTs n (t + 1) (skT t S))) (tmS k t e (skTs n (t + 1) (skT t S))) = tm (k + 1) n (t + 1) (tmE (k + 1) t e S) (tmS (k + 1) t e S)
    rw [tmE_sks n (t + 1) _ (by omega), tmS_sks n (t + 1) _ (by omega), tmE_skT, tmS_skT]
    exact tm_sh n (t + 1) _ _
/-! the gates' counts are no business of the timers -/
theorem evC_g {k : Int32} {t g : Nat} {S : St} {w : Int32} : evC k t (up S 12 g w) = up (evC k t S) 12 g w := by
  unfold evC
  show (if S 3 t = 0 then up S 12 g w else if 0 < S 1 t - k then up (up S 12 g w) 1 t (S 1 t - k) else up (up (up (up (up S 12 g w) 1 t (S 1 t - k)) 1 t (S 0 t)) 3 t (if S 4 t = 0 then 1 else 0)) 5 t (S 5 t + 1)) = _
  by_cases h3 : S 3 t = 0
  · rw [if_pos h3, if_pos h3]
  · rw [if_neg h3, if_neg h3]
    by_cases h4 : 0 < S 1 t - k
    · rw [if_pos h4, if_pos h4, o12_1]
    · rw [if_neg h4, if_neg h4, o12_1, o12_1, o12_3, o12_5]
theorem evM_g {t g : Nat} {S : St} {w : Int32} : evM t (up S 12 g w) = up (evM t S) 12 g w := by
  unfold evM
  rw [o12_6, o12_30]
  rfl
theorem evS_g {k : Int32} {t g : Nat} {S : St} {w : Int32} : evS k t (up S 12 g w) = up (evS k t S) 12 g w := by
  unfold evS
  rw [evC_g]
  show (if evE k t S = 0 then _ else _) = _
  by_cases e : evE k t S = 0
  · rw [if_pos e, if_pos e]
  · rw [if_neg e, if_neg e, evM_g]
theorem tmS_g {k e : Int32} {t g : Nat} {S : St} {w : Int32} : tmS k t e (up S 12 g w) = up (tmS k t e S) 12 g w := by
  unfold tmS
  rw [evS_g, evS_g]
  show (if S 2 t = 0 then _ else _) = _
  by_cases h2 : S 2 t = 0
  · rw [if_pos h2, if_pos h2]
  · rw [if_neg h2, if_neg h2]
    by_cases h3 : e = 0
    · rw [if_pos h3, if_pos h3]
    · rw [if_neg h3, if_neg h3]
theorem tm_g {k : Int32} {g : Nat} {w : Int32} : ∀ (n t : Nat) (e : Int32) (S : St), tm k n t e (up S 12 g w) = up (tm k n t e S) 12 g w
  | 0, _, _, _ => rfl
  | n + 1, t, e, S => by
    show tm k n (t + 1) (tmE k t e S) (tmS k t e (up S 12 g w)) = up (tm k n (t + 1) (tmE k t e S) (tmS k t e S)) 12 g w
    rw [tmS_g]
    exact tm_g n (t + 1) _ _
theorem tm_skG {k : Int32} {g n t : Nat} {e : Int32} {S : St} : tm k n t e (skG g S) = skG g (tm k n t e S) := by
  have e12 : tm k n t e S 12 = S 12 := tm_f (by decide) (by decide) (by decide) (by decide) (by decide) n t e S
  by_cases h : 0 < S 12 g
  · rw [skG_A h, tm_g, skG_A (by rw [e12]; exact h), e12]
  · rw [skG_B h, skG_B (by rw [e12]; exact h)]
theorem tm_skGs {k : Int32} {n t : Nat} {e : Int32} : ∀ (m g : Nat) (S : St), tm k n t e (skGs m g S) = skGs m g (tm k n t e S)
  | 0, _, _ => rfl
  | m + 1, g, S => by
    show tm k n t e (skGs m (g + 1) (skG g S)) = skGs m (g + 1) (skG g (tm k n t e S))
    rw [tm_skGs m, tm_skG]
theorem svS_g {g u : Nat} {S : St} {w : Int32} : svS g (up S 12 u w) = up (svS g S) 12 u w := by
  unfold svS
  show (if S 30 0 &&& S 10 g = 0 then up (up S 12 u w) 14 g (S 14 g + 1) else svB g (lb (S 30 0 &&& S 10 g)) (bk S) (svA g (lb (S 30 0 &&& S 10 g)) (up S 12 u w))) = _
  by_cases h : S 30 0 &&& S 10 g = 0
  · rw [if_pos h, if_pos h, o12_14]
  · rw [if_neg h, if_neg h]
    generalize lb (S 30 0 &&& S 10 g) = b
    generalize bk S = k
    have e : svA g b (up S 12 u w) = up (svA g b S) 12 u w := by
      unfold svA
      rw [o12_30, o12_7, o12_13, o12_15]
      rfl
    rw [e]
    unfold svB
    rw [o12_20, o12_21, o12_22, o12_32]
    rfl
theorem gtS_sh {k : Int32} {g : Nat} {S : St} (h : 0 < S 12 g → 0 < S 12 g - 1) : gtS k g (skG g S) = gtS (k + 1) g S := by
  by_cases hp : 0 < S 12 g
  · rw [skG_A hp]
    unfold gtS
    rw [up_si, sub_sub1, up_up, if_pos (h hp), if_pos hp]
  · rw [skG_B hp]
    unfold gtS
    rw [if_neg hp, if_neg hp]
theorem gtS_u {k : Int32} {g u : Nat} {S : St} {w : Int32} (h : u ≠ g) : gtS k g (up S 12 u w) = up (gtS k g S) 12 u w := by
  unfold gtS
  rw [up_sn (Ne.symm h), o12_12 h, svS_g]
  by_cases hp : 0 < S 12 g
  · rw [if_pos hp, if_pos hp]
    by_cases h2 : S 12 g - k = 0
    · rw [if_pos h2, if_pos h2]
    · rw [if_neg h2, if_neg h2]
  · rw [if_neg hp, if_neg hp]
theorem svS_12 {g : Nat} {S : St} : svS g S 12 = S 12 := svS_f (by decide)
theorem gtS_12 {k : Int32} {g u : Nat} {S : St} (h : u ≠ g) : gtS k g S 12 u = S 12 u := by
  unfold gtS
  split
  · split
    · rw [svS_12, up_sn h]
    · exact up_sn h
  · rfl
theorem gtS_sk {k : Int32} {g u : Nat} {S : St} (h : u ≠ g) : gtS k g (skG u S) = skG u (gtS k g S) := by
  by_cases hp : 0 < S 12 u
  · rw [skG_A hp, gtS_u h, skG_A (by rw [gtS_12 h]; exact hp), gtS_12 h]
  · rw [skG_B hp, skG_B (by rw [gtS_12 h]; exact hp)]
theorem skGs_s {n u : Nat} {S : St} : skGs (n + 1) u S = skGs n (u + 1) (skG u S) := rfl
theorem gtS_sks {k : Int32} {g : Nat} (n : Nat) : ∀ (u : Nat) (S : St), g < u → gtS k g (skGs n u S) = skGs n u (gtS k g S) := by
  induction n with
  | zero => intro u S h; rfl
  | succ n ih =>
    intro u S h
    rw [skGs_s, skGs_s, ih (u + 1) _ (by omega), gtS_sk (by omega)]
theorem gt_sh {k : Int32} : ∀ (n g : Nat) (S : St), (∀ u, g ≤ u → u < g + n → 0 < S 12 u → 0 < S 12 u - 1) → gt k n g (skGs n g S) = gt (k + 1) n g S
  | 0, _, _, _ => rfl
  | n + 1, g, S, h => by
    show gt k n (g + 1) (gtS k g (skGs n (g + 1) (skG g S))) = gt (k + 1) n (g + 1) (gtS (k + 1) g S)
    rw [gtS_sks n (g + 1) _ (by omega), gtS_sh (h g (by omega) (by omega))]
    exact gt_sh n (g + 1) _ (fun u h1 h2 => by rw [gtS_12 (by omega)]; exact h u (by omega) (by omega))
theorem skT_31 {t : Nat} {S : St} {v : Int32} : up (skT t S) 31 0 v = skT t (up S 31 0 v) := by
  by_cases h : act S t
  · rw [skT_A h, skT_A (show act (up S 31 0 v) t from h), o1_31]
    rfl
  · rw [skT_B h, skT_B (show ¬ act (up S 31 0 v) t from h)]
theorem skTs_31 {v : Int32} : ∀ (n t : Nat) (S : St), up (skTs n t S) 31 0 v = skTs n t (up S 31 0 v)
  | 0, _, _ => rfl
  | n + 1, t, S => by
    show up (skTs n (t + 1) (skT t S)) 31 0 v = skTs n (t + 1) (skT t (up S 31 0 v))
    rw [skTs_31 n, skT_31]
theorem skG_31 {g : Nat} {S : St} {v : Int32} : up (skG g S) 31 0 v = skG g (up S 31 0 v) := by
  by_cases h : 0 < S 12 g
  · rw [skG_A h, skG_A (show 0 < up S 31 0 v 12 g from h), o12_31]
    rfl
  · rw [skG_B h, skG_B (show ¬ 0 < up S 31 0 v 12 g from h)]
theorem skGs_31 {v : Int32} : ∀ (n g : Nat) (S : St), up (skGs n g S) 31 0 v = skGs n g (up S 31 0 v)
  | 0, _, _ => rfl
  | n + 1, g, S => by
    show up (skGs n (g + 1) (skG g S)) 31 0 v = skGs n (g + 1) (skG g (up S 31 0 v))
    rw [skGs_31 n, skG_31]
theorem pass_sh {k : Int32} {S : St} (h : ∀ g, g < 4 → 0 < S 12 g → 0 < S 12 g - 1) : passS k (skip1 S) = passS (k + 1) S := by
  have e31 : skip1 S 31 0 = S 31 0 + 1 := by
    unfold skip1
    rw [skGs_f (by decide), skTs_f (by decide), up_si]
  unfold passS
  rw [e31]
  unfold skip1
  rw [skGs_31, skTs_31, up_up, tm_skGs, tm_sh]
  rw [gt_sh 4 0 _ (fun u _ hu => by
    rw [tm_f (by decide) (by decide) (by decide) (by decide) (by decide)]
    exact h u (by omega))]
  rw [show S 31 0 + 1 + k = S 31 0 + (k + 1) by rw [Int32.add_assoc, Int32.add_comm 1]]
end
section
/-! ===== the state's invariant under a tick; the core law ===== -/
theorem sub1_toInt {v : Int32} (h : 1 ≤ v.toInt) : (v - 1).toInt = v.toInt - 1 := by
  obtain ⟨j, hj, rfl⟩ := nI_of (x := v) (by rw [Int32.lt_iff_toInt_lt, toInt_0]; omega)
  rw [nI_toInt hj] at h
  rw [show (nI j - 1 : Int32) = nI (j - 1) from pk_sub (b := 1) (by omega), nI_toInt hj, nI_toInt (by omega)]
  omega
theorem pos_iff {v : Int32} : 0 < v ↔ 1 ≤ v.toInt := by
  rw [Int32.lt_iff_toInt_lt, toInt_0]; omega
theorem Inv_evC {t : Nat} {S : St} (h : Inv S) : Inv (evC 1 t S) := by
  unfold evC
  split
  · exact h
  · split
    · rename_i h2
      have h1 := h 1 t
      refine h.up (show 1 ≤ (S 1 t - 1).toInt ∧ (S 1 t - 1).toInt ≤ 65535 from ?_)
      have h3 : 1 ≤ (S 1 t).toInt ∧ (S 1 t).toInt ≤ 65535 := h1
      have h4 := pos_iff.mp h2
      rw [sub1_toInt h3.1] at h4 ⊢
      omega
    · rw [up_up]
      refine Inv.up (Inv.up (Inv.up h (show okv 1 (S 0 t) from h 0 t)) (show Bz (if S 4 t = 0 then 1 else 0) from ?_)) trivial
      split
      · exact Or.inr rfl
      · exact Or.inl rfl
theorem Inv_evS {t : Nat} {S : St} (h : Inv S) : Inv (evS 1 t S) := by
  unfold evS
  split
  · exact Inv_evC h
  · unfold evM
    exact Inv.up (Inv.up (Inv_evC h) trivial) trivial
theorem Inv_tmS {t : Nat} {e : Int32} {S : St} (h : Inv S) : Inv (tmS 1 t e S) := by
  unfold tmS
  split
  · exact Inv_evS h
  · split
    · exact h
    · exact Inv_evS h
theorem Inv_tm : ∀ (n t : Nat) (e : Int32) (S : St), Inv S → Inv (tm 1 n t e S)
  | 0, _, _, _, h => h
  | n + 1, t, e, S, h => Inv_tm n (t + 1) (tmE 1 t e S) (tmS 1 t e S) (Inv_tmS h)
theorem Inv_svS {g : Nat} {S : St} (h : Inv S) : Inv (svS g S) := by
  unfold svS
  split
  · exact Inv.up h trivial
  · unfold svB svA
    exact Inv.up (Inv.up (Inv.up (Inv.up (Inv.up (Inv.up (Inv.up (Inv.up h trivial) trivial) trivial) trivial) trivial) trivial) trivial) trivial
theorem Inv_gtS {g : Nat} {S : St} (h : Inv S) : Inv (gtS 1 g S) := by
  unfold gtS
  split
  · rename_i h2
    have h1 : 0 ≤ (S 12 g).toInt ∧ (S 12 g).toInt ≤ 1000 := h 12 g
    have h4 := pos_iff.mp h2
    have h5 : Inv (up S 12 g (S 12 g - 1)) := h.up (show 0 ≤ (S 12 g - 1).toInt ∧ (S 12 g - 1).toInt ≤ 1000 by rw [sub1_toInt h4]; omega)
    split
    · exact Inv_svS h5
    · exact h5
  · exact h
theorem Inv_gt : ∀ (n g : Nat) (S : St), Inv S → Inv (gt 1 n g S)
  | 0, _, _, h => h
  | n + 1, g, S, h => Inv_gt n (g + 1) (gtS 1 g S) (Inv_gtS h)
theorem Inv_wtS {g : Nat} {S : St} (h : Inv S) : Inv (wtS g S) := by
  unfold wtS
  split
  · split
    · exact h
    · have h1 : 1 ≤ (S 11 g).toInt ∧ (S 11 g).toInt ≤ 1000 := h 11 g
      exact h.up (show 0 ≤ (S 11 g).toInt ∧ (S 11 g).toInt ≤ 1000 by omega)
  · exact h
theorem Inv_wt : ∀ (n g : Nat) (S : St), Inv S → Inv (wt n g S)
  | 0, _, _, h => h
  | n + 1, g, S, h => Inv_wt n (g + 1) (wtS g S) (Inv_wtS h)
theorem Inv_tick {S : St} (h : Inv S) : Inv (tick S) := by
  unfold tick passS
  exact Inv_wt 4 0 _ (Inv_gt 4 0 _ (Inv_tm 8 0 0 _ (Inv.up h trivial)))
theorem Inv_tickN : ∀ (n : Nat) (S : St), Inv S → Inv (tickN n S)
  | 0, _, h => h
  | n + 1, S, h => Inv_tickN n (tick S) (Inv_tick h)
theorem Bnd_tickN : ∀ (n B : Nat) (S : St), Bnd B S → Bnd (B + 4 * n) (tickN n S)
  | 0, _, _, h => h
  | n + 1, B, S, h => by
    have h1 := Bnd_tickN n (B + 4) (tick S) (Bnd_passS h)
    rw [show B + 4 * (n + 1) = B + 4 + 4 * n by omega]
    exact h1
theorem tickN_s {n : Nat} {S : St} : tickN (n + 1) S = tickN n (tick S) := rfl
theorem tickN_add (a : Nat) : ∀ (b : Nat) (S : St), tickN (a + b) S = tickN b (tickN a S) := by
  induction a with
  | zero => intro b S; rw [Nat.zero_add]; rfl
  | succ a ih =>
    intro b S
    rw [show a + 1 + b = a + b + 1 by omega, tickN_s, tickN_s, ih]
theorem nI_le_iff {n : Nat} {v : Int32} (h : n < 2 ^ 31) : nI n ≤ v ↔ (n : Int) ≤ v.toInt := by
  rw [Int32.le_iff_toInt_le, nI_toInt h]
theorem skip_facts {S : St} {k : Nat} (hI : Inv S) (hk : k + 2 < 2 ^ 31) (hq : QP S (nI (k + 2))) : QP (tick S) (nI (k + 1)) ∧ (tick S) 32 0 = S 32 0 ∧ passS (nI (k + 2)) S = passS (nI (k + 1)) (tick S) := by
  obtain ⟨-, q1, q2, q3⟩ := hq
  have a1 : ∀ t, t < 8 → act S t → (k : Int) + 2 ≤ (S 1 t).toInt := fun t ht ha => by
    have := (nI_le_iff hk).mp (q1 t ht ha)
    omega
  have a2 : ∀ g, g < 4 → 0 < S 12 g → (k : Int) + 2 ≤ (S 12 g).toInt := fun g hg ha => by
    have := (nI_le_iff hk).mp (q2 g hg ha)
    omega
  have a3 : ∀ g, g < 4 → ¬ 0 < S 12 g → S 30 0 &&& S 10 g = 0 := fun g hg ha => Classical.byContradiction fun z => by
    have := (nI_le_iff hk).mp (q3 g hg ha z)
    rw [toInt_1] at this
    omega
  have b1 : ∀ t, t < 8 → act S t → 0 < S 1 t - 1 := fun t ht ha => by
    have := a1 t ht ha
    rw [pos_iff, sub1_toInt (by omega)]
    omega
  have b2 : ∀ g, g < 4 → 0 < S 12 g → 0 < S 12 g - 1 := fun g hg ha => by
    have := a2 g hg ha
    rw [pos_iff, sub1_toInt (by omega)]
    omega
  have b3 : ∀ g, g < 4 → 0 < S 12 g → ¬ S 12 g - 1 = 0 := fun g hg ha e => by
    have := b2 g hg ha
    rw [e] at this
    exact absurd this (by decide)
  have e := tick_q b1 b3 a3
  have s12 : ∀ g, g < 4 → skip1 S 12 g = (if 0 < S 12 g then S 12 g - 1 else S 12 g) := fun g hg => by
    unfold skip1
    rw [skGs_at 4 0 g _ (by omega) (by omega), skTs_f (by decide)]
    rfl
  have sf : ∀ f, f ≠ 12 → f ≠ 1 → f ≠ 31 → skip1 S f = S f := fun f h1 h2 h3 => by
    unfold skip1
    rw [skGs_f h1, skTs_f h2, up_f h3]
  have s1 : ∀ t, t < 8 → act S t → skip1 S 1 t = S 1 t - 1 := fun t ht ha => by
    unfold skip1
    rw [skGs_f (by decide), skTs_at 8 0 t (up S 31 0 (S 31 0 + 1)) (by omega) (by omega) ha]
    rfl
  refine ⟨?_, by rw [e, sf 32 (by decide) (by decide) (by decide)], ?_⟩
  · rw [e]
    refine ⟨?_, fun t ht ha => ?_, fun g hg ha => ?_, fun g hg ha hb => ?_⟩
    · rw [Int32.le_iff_toInt_le, toInt_1, nI_toInt (by omega)]; omega
    · have ha' : act S t := by
        unfold act at ha ⊢
        rw [sf 3 (by decide) (by decide) (by decide), sf 2 (by decide) (by decide) (by decide)] at ha
        exact ha
      have := a1 t ht ha'
      rw [s1 t ht ha', nI_le_iff (by omega), sub1_toInt (by omega)]
      omega
    · rw [s12 g hg] at ha ⊢
      by_cases hp : 0 < S 12 g
      · have := a2 g hg hp
        rw [if_pos hp, nI_le_iff (by omega), sub1_toInt (by omega)]
        omega
      · rw [if_neg hp] at ha
        exact absurd ha hp
    · rw [s12 g hg] at ha
      rw [sf 30 (by decide) (by decide) (by decide), sf 10 (by decide) (by decide) (by decide)] at hb
      by_cases hp : 0 < S 12 g
      · rw [if_pos hp] at ha
        exact absurd (b2 g hg hp) ha
      · exact absurd (a3 g hg hp) hb
  · rw [e, pass_sh b2, nI_1]
theorem core : ∀ (k : Nat) (S : St), Inv S → k + 1 < 2 ^ 31 → QP S (nI (k + 1)) → passS (nI (k + 1)) S = tickN (k + 1) S := by
  intro k
  induction k with
  | zero => intro S _ _ _; rfl
  | succ k ih =>
    intro S hI hk hq
    obtain ⟨h1, -, h3⟩ := skip_facts hI hk hq
    rw [h3, ih (tick S) (Inv_tick hI) (by omega) h1]
    rfl
theorem nx_s {n : Nat} {S : St} : nx (n + 1) S = if (tick S) 32 0 = S 32 0 then ((nx n (tick S)).1 + 1, (nx n (tick S)).2) else (1, tick S) := rfl
theorem nx_step : ∀ (k a : Nat) (S : St), Inv S → k + 1 < 2 ^ 31 → k + 1 ≤ a → QP S (nI (k + 1)) → nx a S = if tickN (k + 1) S 32 0 = S 32 0 then (k + 1 + (nx (a - (k + 1)) (tickN (k + 1) S)).1, (nx (a - (k + 1)) (tickN (k + 1) S)).2) else (k + 1, tickN (k + 1) S) := by
  intro k
  induction k with
  | zero =>
    intro a S hI _ ha hq
    obtain ⟨b, rfl⟩ : ∃ b, a = b + 1 := ⟨a - 1, by omega⟩
    rw [nx_s, show b + 1 - (0 + 1) = b by omega, show tickN (0 + 1) S = tick S from rfl]
    by_cases h : tick S 32 0 = S 32 0
    · rw [if_pos h, if_pos h, Nat.add_comm (0 + 1)]
    · rw [if_neg h, if_neg h]
  | succ k ih =>
    intro a S hI hk ha hq
    obtain ⟨b, rfl⟩ : ∃ b, a = b + 1 := ⟨a - 1, by omega⟩
    obtain ⟨h1, h2, -⟩ := skip_facts hI hk hq
    rw [nx_s, if_pos h2, ih b (tick S) (Inv_tick hI) (by omega) (by omega) h1, tickN_s (n := k + 1), h2, show b + 1 - (k + 1 + 1) = b - (k + 1) by omega]
    by_cases h : tickN (k + 1) (tick S) 32 0 = S 32 0
    · rw [if_pos h, if_pos h]
      show (k + 1 + (nx (b - (k + 1)) (tickN (k + 1) (tick S))).1 + 1, _) = _
      rw [show k + 1 + (nx (b - (k + 1)) (tickN (k + 1) (tick S))).1 + 1 = k + 1 + 1 + (nx (b - (k + 1)) (tickN (k + 1) (tick S))).1 by omega]
    · rw [if_neg h, if_neg h]
theorem nx_le : ∀ (n : Nat) (S : St), (nx n S).1 ≤ n
  | 0, _ => Nat.le_refl 0
  | n + 1, S => by
    rw [nx_s]
    have h := nx_le n (tick S)
    split
    · show (nx n (tick S)).1 + 1 ≤ n + 1
      omega
    · show 1 ≤ n + 1
      omega
theorem tickN_0 {S : St} : tickN 0 S = S := rfl
theorem nx_tick (n : Nat) : ∀ S : St, (nx n S).2 = tickN (nx n S).1 S := by
  induction n with
  | zero => intro S; rfl
  | succ n ih =>
    intro S
    rw [nx_s]
    generalize hT : tick S = T
    by_cases h : T 32 0 = S 32 0
    · rw [if_pos h]
      show (nx n T).2 = tickN ((nx n T).1 + 1) S
      rw [tickN_s, hT, ih]
    · rw [if_neg h]
      show T = tickN (0 + 1) S
      rw [tickN_s, hT, tickN_0]
end
section
def r3 : Room := { frames := 3, cells := 0, slots := 0, locals := 96 }
theorem Inv.one {S : St} (h : Inv S) (t : Nat) : 1 ≤ S 1 t := by
  have h1 : 1 ≤ (S 1 t).toInt ∧ (S 1 t).toInt ≤ 65535 := h 1 t
  rw [Int32.le_iff_toInt_le, toInt_1]
  exact h1.1
theorem Inv.mask {S : St} (h : Inv S) (i : Nat) : ∃ m : Nat, m < 256 ∧ S 10 i = nI m := h 10 i
/-- the step that is taken: the less of what is left and of what is quiet -/
theorem step_ok {S : St} {m : Nat} {q : Int32} (h0 : 0 < m) (hm : m < 2 ^ 31) (hq : QP S q) : ∃ k : Nat, k + 1 ≤ m ∧ (if q < nI m then q else nI m) = nI (k + 1) ∧ QP S (nI (k + 1)) := by
  have hs1 := min_le_r (nI m) q
  have hs2 := min_le_l (nI m) q
  have hs3 : 1 ≤ (if q < nI m then q else nI m) := le_min (by rw [Int32.le_iff_toInt_le, toInt_1, nI_toInt hm]; omega) hq.1
  generalize (if q < nI m then q else nI m) = v at hs1 hs2 hs3
  obtain ⟨j, hj, rfl⟩ := nI_of2 (n := m) (M := nI m) (x := v) (nI_toInt hm) (by
    rw [Int32.le_iff_toInt_le, toInt_1] at hs3
    rw [Int32.lt_iff_toInt_lt, toInt_0]
    omega) hs2
  rw [Int32.le_iff_toInt_le, toInt_1, nI_toInt (by omega)] at hs3
  obtain ⟨k, rfl⟩ : ∃ k, j = k + 1 := ⟨j - 1, by omega⟩
  exact ⟨k, hj, rfl, QI.mono hq (by rw [Int32.le_iff_toInt_le, toInt_1, nI_toInt (by omega)]; omega) hs1⟩
theorem sub_ne {a b : Int32} (h : ¬ a = b) : ¬ a - b = 0 := by
  intro e
  apply h
  have e1 : a - b + b = a := Int32.sub_add_cancel a b
  rw [e, Int32.zero_add] at e1
  exact e1.symm
theorem okN_j {n : Int32} (h : okN n) : ∃ k : Nat, k ≤ 20000 ∧ n = nI k := nI_of2 (M := 20000) (by decide) h.1 h.2
set_option maxHeartbeats 4000000 in
set_option maxRecDepth 100000 in
theorem lp_adv {x : Ctx} {G : Gid} {ad : Nat → Nat} {Q : State → Prop} (X : Fix x G b_TG_advance 5 R_TG (some .int) r3) (nn c0 : Int32) : ∀ (f m : Nat) (S : St) (B : Nat), m < f → m ≤ 20000 → Inv S → Bnd B S → B + 4 * m + 4 < 2 ^ 31 → J x G 0 0 Q (wX G ad (tickN m S)) 48 [some (.ref (ad 0)), some (.int nn), none, some (.int (tickN m S 32 0 - c0)), none] [] → J x G 0 0 Q (wX G ad S) 17 [some (.ref (ad 0)), some (.int nn), some (.int (nI m)), some (.int (S 32 0 - c0)), none] [] := by
  intro f
  induction f with
  | zero => intro m S B hf; exact absurd hf (by omega)
  | succ f ih =>
    intro m S B hf hm hI hB hB2 kk
    refine j_iload_n X d_TG_advance_17 rfl ?_
    by_cases h0 : m = 0
    · subst h0
      refine j_if_le (tgt := 48) X d_TG_advance_18 (by decide) (fun _ => ?_) (fun h => absurd (by decide) h)
      refine j_drop 2 ?_
      exact kk
    · refine j_if_le (tgt := 48) X d_TG_advance_18 (by decide) (fun h => absurd h (nI_nle (by omega) (by omega))) (fun _ => ?_)
      refine j_iload_n X d_TG_advance_21 rfl ?_
      refine j_aload_n X d_TG_advance_22 rfl ?_
      refine j_callVi0 X [] [.int (nI m)] (c_TG_quiet _ _ _ S hI.one) ok_TG_114 (q0 := 0) rfl rfl rfl (Nat.le_of_ble_eq_true rfl) ⟨Nat.le_of_ble_eq_true rfl, Nat.le_of_ble_eq_true rfl⟩ ⟨rfl, rfl⟩ rfl ⟨Nat.le_of_ble_eq_true rfl, Nat.le_of_ble_eq_true rfl⟩ d_TG_advance_23 (fun r w1 hw => ?_)
      obtain ⟨rfl, hq⟩ := hw
      refine j_mmin X ml_TG_70 d_TG_advance_26 (Nat.le_of_ble_eq_true rfl) (Nat.le_of_ble_eq_true rfl) (Nat.le_of_ble_eq_true rfl) (Nat.le_of_ble_eq_true rfl) rfl ?_
      obtain ⟨k, hk, hke, hkq⟩ := step_ok (m := m) (by omega) (by omega) hq
      have hc := core k S hI (by omega) hkq
      refine j_top hke ?_
      refine j_istore X d_TG_advance_29 (Nat.le_of_ble_eq_true rfl) ?_
      refine j_iload_n X d_TG_advance_31 rfl ?_
      refine j_aload_n X d_TG_advance_32 rfl ?_
      refine j_iload X d_TG_advance_33 rfl ?_
      refine j_callVi0 X [.int (nI (k + 1))] [.int (S 32 0 - c0)] (c_TG_pass _ _ _ S hI.mask B hB (by omega) (nI (k + 1))) ok_TG_118 (q0 := 0) rfl rfl rfl (Nat.le_of_ble_eq_true rfl) ⟨Nat.le_of_ble_eq_true rfl, Nat.le_of_ble_eq_true rfl⟩ ⟨rfl, rfl⟩ rfl ⟨Nat.le_of_ble_eq_true rfl, Nat.le_of_ble_eq_true rfl⟩ d_TG_advance_35 (fun r w1 hw => ?_)
      obtain ⟨rfl, rfl⟩ := hw
      refine j_iadd X d_TG_advance_38 ?_
      refine j_top (add_sub3 (S 32 0) _ c0) ?_
      refine j_istore_n X d_TG_advance_39 (Nat.le_of_ble_eq_true rfl) ?_
      refine j_iload_n X d_TG_advance_40 rfl ?_
      refine j_iload X d_TG_advance_41 rfl ?_
      refine j_isub X d_TG_advance_43 ?_
      refine j_top (pk_sub hk) ?_
      refine j_istore_n X d_TG_advance_44 (Nat.le_of_ble_eq_true rfl) ?_
      refine j_goto (tgt := 17) X d_TG_advance_45 (by decide) ?_
      refine j_drop 4 ?_
      rw [hc]
      refine ih (m - (k + 1)) (tickN (k + 1) S) (B + 4 * (k + 1)) (by omega) (by omega) (Inv_tickN _ _ hI) (Bnd_tickN _ _ _ hB) (by omega) ?_
      rw [← tickN_add, show k + 1 + (m - (k + 1)) = m by omega]
      exact kk
set_option maxHeartbeats 4000000 in
set_option maxRecDepth 100000 in
theorem c_TG_advance (l : Launch) (G : Gid) (ad : Nat → Nat) (S : St) (hI : Inv S) (B : Nat) (hB : Bnd B S) (hB2 : B + 80004 < 2 ^ 31) (n : Int32) : CtI l y_TG_advance b_TG_advance 5 (some .int) r3 G [.ref (ad 0), .int n] (wX G ad S) 0 0 (fun r w => ∃ S1, PAdv S n r S1 ∧ w = wX G ad S1) := by
  refine CtI.of (own := R_TG) (L := [some (.ref (ad 0)), some (.int n), none, none, none]) (by decide) rfl rfl (Nat.le_of_ble_eq_true rfl) rfl (fun x X => ?_)
  refine j_iload_n X d_TG_advance_0 rfl ?_
  refine j_if_lt (tgt := 11) X d_TG_advance_1 (by decide) (fun h1 => ?_) (fun h1 => ?_)
  · refine j_iconst (v := -1) X d_TG_advance_11 (by decide) ?_
    exact j_iret X ⟨S, Or.inr ⟨fun h => h.1 h1, rfl, rfl⟩, rfl⟩ d_TG_advance_12
  · refine j_iload_n X d_TG_advance_4 rfl ?_
    refine j_sipush (v := 20000) X d_TG_advance_5 (by decide) ?_
    refine j_icmp_le (tgt := 13) X d_TG_advance_8 (by decide) (fun h2 => ?_) (fun h2 => ?_)
    · obtain ⟨k, hk, rfl⟩ := okN_j ⟨h1, h2⟩
      refine j_iload_n X d_TG_advance_13 rfl ?_
      refine j_istore_n X d_TG_advance_14 (Nat.le_of_ble_eq_true rfl) ?_
      refine j_iconst (v := 0) X d_TG_advance_15 (by decide) ?_
      refine j_top (v' := S 32 0 - S 32 0) (Int32.sub_self (a := S 32 0)).symm ?_
      refine j_istore_n X d_TG_advance_16 (Nat.le_of_ble_eq_true rfl) ?_
      refine lp_adv X (nI k) (S 32 0) (k + 1) k S B (by omega) hk hI hB (by omega) ?_
      refine j_iload_n X d_TG_advance_48 rfl ?_
      exact j_iret X ⟨_, Or.inl ⟨k, hk, rfl, rfl, rfl⟩, rfl⟩ d_TG_advance_49
    · refine j_iconst (v := -1) X d_TG_advance_11 (by decide) ?_
      exact j_iret X ⟨S, Or.inr ⟨fun h => h2 h.2, rfl, rfl⟩, rfl⟩ d_TG_advance_12
set_option maxHeartbeats 4000000 in
set_option maxRecDepth 100000 in
theorem lp_next {x : Ctx} {G : Gid} {ad : Nat → Nat} {Q : State → Prop} (X : Fix x G b_TG_next 5 R_TG (some .int) r3) (N : Nat) (hN : N ≤ 20000) : ∀ (f g : Nat) (S : St) (B : Nat), N - g < f → g ≤ N → Inv S → Bnd B S → B + 4 * (N - g) + 4 < 2 ^ 31 → J x G 0 0 Q (wX G ad (nx (N - g) S).2) 53 [some (.ref (ad 0)), some (.int (nI N)), some (.int (nI (g + (nx (N - g) S).1))), none, none] [] → J x G 0 0 Q (wX G ad S) 17 [some (.ref (ad 0)), some (.int (nI N)), some (.int (nI g)), some (.int 0), none] [] := by
  intro f
  induction f with
  | zero => intro g S B hf; exact absurd hf (by omega)
  | succ f ih =>
    intro g S B hf hg hI hB hB2 kk
    refine j_iload_n X d_TG_next_17 rfl ?_
    refine j_iload_n X d_TG_next_18 rfl ?_
    by_cases h0 : g = N
    · subst h0
      refine j_icmp_ge (tgt := 53) X d_TG_next_19 (by decide) (fun _ => ?_) (fun h => absurd (nI_le (Nat.le_refl _) (by omega)) h)
      refine j_drop 3 ?_
      rw [Nat.sub_self] at kk
      exact kk
    · refine j_icmp_ge (tgt := 53) X d_TG_next_19 (by decide) (fun h => absurd h (nI_ge (by omega) (by omega))) (fun _ => ?_)
      refine j_iload_n X d_TG_next_22 rfl ?_
      refine j_if_ne (tgt := 53) X d_TG_next_23 (by decide) (fun h => absurd (rfl) h) (fun _ => ?_)
      refine j_iload_n X d_TG_next_26 rfl ?_
      refine j_iload_n X d_TG_next_27 rfl ?_
      refine j_isub X d_TG_next_28 ?_
      refine j_top (pk_sub hg) ?_
      refine j_aload_n X d_TG_next_29 rfl ?_
      refine j_callVi0 X [] [.int (nI (N - g))] (c_TG_quiet _ _ _ S hI.one) ok_TG_114 (q0 := 0) rfl rfl rfl (Nat.le_of_ble_eq_true rfl) ⟨Nat.le_of_ble_eq_true rfl, Nat.le_of_ble_eq_true rfl⟩ ⟨rfl, rfl⟩ rfl ⟨Nat.le_of_ble_eq_true rfl, Nat.le_of_ble_eq_true rfl⟩ d_TG_next_30 (fun r w1 hw => ?_)
      obtain ⟨rfl, hq⟩ := hw
      refine j_mmin X ml_TG_70 d_TG_next_33 (Nat.le_of_ble_eq_true rfl) (Nat.le_of_ble_eq_true rfl) (Nat.le_of_ble_eq_true rfl) (Nat.le_of_ble_eq_true rfl) rfl ?_
      obtain ⟨k, hk, hke, hkq⟩ := step_ok (m := N - g) (by omega) (by omega) hq
      have hc := core k S hI (by omega) hkq
      have hx := nx_step k (N - g) S hI (by omega) hk hkq
      refine j_top hke ?_
      refine j_istore X d_TG_next_36 (Nat.le_of_ble_eq_true rfl) ?_
      refine j_aload_n X d_TG_next_38 rfl ?_
      refine j_iload X d_TG_next_39 rfl ?_
      refine j_callVi0 X [.int (nI (k + 1))] [] (c_TG_pass _ _ _ S hI.mask B hB (by omega) (nI (k + 1))) ok_TG_118 (q0 := 0) rfl rfl rfl (Nat.le_of_ble_eq_true rfl) ⟨Nat.le_of_ble_eq_true rfl, Nat.le_of_ble_eq_true rfl⟩ ⟨rfl, rfl⟩ rfl ⟨Nat.le_of_ble_eq_true rfl, Nat.le_of_ble_eq_true rfl⟩ d_TG_next_41 (fun r w1 hw => ?_)
      obtain ⟨rfl, rfl⟩ := hw
      refine j_istore_n X d_TG_next_44 (Nat.le_of_ble_eq_true rfl) ?_
      refine j_iload_n X d_TG_next_45 rfl ?_
      refine j_iload X d_TG_next_46 rfl ?_
      refine j_iadd X d_TG_next_48 ?_
      refine j_top (nI_add g (k + 1)) ?_
      refine j_istore_n X d_TG_next_49 (Nat.le_of_ble_eq_true rfl) ?_
      refine j_goto (tgt := 17) X d_TG_next_50 (by decide) ?_
      refine j_drop 4 ?_
      rw [hc]
      have hIT := Inv_tickN (k + 1) S hI
      have hBT := Bnd_tickN (k + 1) B S hB
      generalize tickN (k + 1) S = T at hx hIT hBT ⊢
      by_cases hT : T 32 0 = S 32 0
      · rw [if_pos hT] at hx
        refine j_eqL (L' := [some (.ref (ad 0)), some (.int (nI N)), some (.int (nI (g + (k + 1)))), some (.int 0), none]) (by rw [hT, Int32.sub_self]; rfl) ?_
        refine ih (g + (k + 1)) T (B + 4 * (k + 1)) (by omega) (by omega) hIT hBT (by omega) ?_
        rw [hx] at kk
        rw [show N - (g + (k + 1)) = N - g - (k + 1) by omega, show g + (k + 1) + (nx (N - g - (k + 1)) T).1 = g + (k + 1 + (nx (N - g - (k + 1)) T).1) by omega]
        exact kk
      · rw [if_neg hT] at hx
        rw [hx] at kk
        refine j_iload_n X d_TG_next_17 rfl ?_
        refine j_iload_n X d_TG_next_18 rfl ?_
        by_cases h5 : g + (k + 1) = N
        · refine j_icmp_ge (tgt := 53) X d_TG_next_19 (by decide) (fun _ => ?_) (fun h => absurd (by rw [h5]; exact nI_le (Nat.le_refl _) (by omega)) h)
          refine j_drop 3 ?_
          exact kk
        · refine j_icmp_ge (tgt := 53) X d_TG_next_19 (by decide) (fun h => absurd h (nI_ge (by omega) (by omega))) (fun _ => ?_)
          refine j_iload_n X d_TG_next_22 rfl ?_
          refine j_if_ne (tgt := 53) X d_TG_next_23 (by decide) (fun _ => ?_) (fun h => absurd h (sub_ne hT))
          refine j_drop 3 ?_
          exact kk
set_option maxHeartbeats 4000000 in
set_option maxRecDepth 100000 in
theorem c_TG_next (l : Launch) (G : Gid) (ad : Nat → Nat) (S : St) (hI : Inv S) (B : Nat) (hB : Bnd B S) (hB2 : B + 80004 < 2 ^ 31) (n : Int32) : CtI l y_TG_next b_TG_next 5 (some .int) r3 G [.ref (ad 0), .int n] (wX G ad S) 0 0 (fun r w => ∃ S1, PNext S n r S1 ∧ w = wX G ad S1) := by
  refine CtI.of (own := R_TG) (L := [some (.ref (ad 0)), some (.int n), none, none, none]) (by decide) rfl rfl (Nat.le_of_ble_eq_true rfl) rfl (fun x X => ?_)
  refine j_iload_n X d_TG_next_0 rfl ?_
  refine j_if_lt (tgt := 11) X d_TG_next_1 (by decide) (fun h1 => ?_) (fun h1 => ?_)
  · refine j_iconst (v := -1) X d_TG_next_11 (by decide) ?_
    exact j_iret X ⟨S, Or.inr ⟨fun h => h.1 h1, rfl, rfl⟩, rfl⟩ d_TG_next_12
  · refine j_iload_n X d_TG_next_4 rfl ?_
    refine j_sipush (v := 20000) X d_TG_next_5 (by decide) ?_
    refine j_icmp_le (tgt := 13) X d_TG_next_8 (by decide) (fun h2 => ?_) (fun h2 => ?_)
    · obtain ⟨k, hk, rfl⟩ := okN_j ⟨h1, h2⟩
      refine j_iconst (v := 0) X d_TG_next_13 (by decide) ?_
      refine j_istore_n X d_TG_next_14 (Nat.le_of_ble_eq_true rfl) ?_
      refine j_iconst (v := 0) X d_TG_next_15 (by decide) ?_
      refine j_istore_n X d_TG_next_16 (Nat.le_of_ble_eq_true rfl) ?_
      refine lp_next X k hk (k + 1) 0 S B (by omega) (by omega) hI hB (by omega) ?_
      rw [Nat.sub_zero, Nat.zero_add]
      refine j_iload_n X d_TG_next_53 rfl ?_
      exact j_iret X ⟨_, Or.inl ⟨k, hk, rfl, rfl, rfl⟩, rfl⟩ d_TG_next_54
    · refine j_iconst (v := -1) X d_TG_next_11 (by decide) ?_
      exact j_iret X ⟨S, Or.inr ⟨fun h => h2 h.2, rfl, rfl⟩, rfl⟩ d_TG_next_12
end
section
theorem lt7 {t : Int32} : 7 < t ↔ 8 ≤ t := by
  rw [Int32.lt_iff_toInt_lt, Int32.le_iff_toInt_le, show (7 : Int32).toInt = 7 by decide, show (8 : Int32).toInt = 8 by decide]; omega
theorem lt3 {t : Int32} : 3 < t ↔ 4 ≤ t := by
  rw [Int32.lt_iff_toInt_lt, Int32.le_iff_toInt_le, show (3 : Int32).toInt = 3 by decide, show (4 : Int32).toInt = 4 by decide]; omega
theorem lt15 {t : Int32} : 15 < t ↔ 16 ≤ t := by
  rw [Int32.lt_iff_toInt_lt, Int32.le_iff_toInt_le, show (15 : Int32).toInt = 15 by decide, show (16 : Int32).toInt = 16 by decide]; omega
theorem ix4 (t k : Nat) : 4 * nI t + nI k = nI (4 * t + k) := by
  show nI 4 * nI t + nI k = _
  rw [pk_mul, nI_add]
theorem ix4z (t : Nat) : 4 * nI t = nI (4 * t + 0) := by
  show nI 4 * nI t = _
  rw [pk_mul]; rfl
theorem oft_k {S : St} {t : Nat} (k : Nat) (hk : k < 4) : oft S (4 * t + k) = S (5 + k) t := oft_at hk
set_option maxHeartbeats 4000000 in
set_option maxRecDepth 100000 in
theorem c_Md_isIn (l : Launch) (G : Gid) (ws : va_W) (v lo hi : Int32) : CtI l y_Md_isIn b_Md_isIn 3 (some .boolean) rz G [.int v, .int lo, .int hi] ws 0 0 (fun r w => w = ws ∧ (((¬ v < lo ∧ ¬ hi < v) ∧ r = 1) ∨ (¬ (¬ v < lo ∧ ¬ hi < v) ∧ r = 0))) := by
  refine CtI.of (own := R_Md) (L := [some (.int v), some (.int lo), some (.int hi)]) (by decide) rfl rfl (Nat.le_of_ble_eq_true rfl) rfl (fun x X => ?_)
  refine j_iload_n X d_Md_isIn_0 rfl ?_
  refine j_iload_n X d_Md_isIn_1 rfl ?_
  refine j_icmp_lt (tgt := 14) X d_Md_isIn_2 (by decide) (fun h1 => ?_) (fun h1 => ?_)
  · refine j_iconst (v := 0) X d_Md_isIn_14 (by decide) ?_
    exact j_zret X (Or.inl rfl) ⟨rfl, Or.inr ⟨fun h => h.1 h1, rfl⟩⟩ d_Md_isIn_15
  · refine j_iload_n X d_Md_isIn_5 rfl ?_
    refine j_iload_n X d_Md_isIn_6 rfl ?_
    refine j_icmp_gt (tgt := 14) X d_Md_isIn_7 (by decide) (fun h2 => ?_) (fun h2 => ?_)
    · refine j_iconst (v := 0) X d_Md_isIn_14 (by decide) ?_
      exact j_zret X (Or.inl rfl) ⟨rfl, Or.inr ⟨fun h => h.2 h2, rfl⟩⟩ d_Md_isIn_15
    · refine j_iconst (v := 1) X d_Md_isIn_10 (by decide) ?_
      refine j_goto (tgt := 15) X d_Md_isIn_11 (by decide) ?_
      exact j_zret X (Or.inr rfl) ⟨rfl, Or.inl ⟨⟨h1, h2⟩, rfl⟩⟩ d_Md_isIn_15
set_option maxHeartbeats 4000000 in
set_option maxRecDepth 100000 in
theorem c_Md_asks (l : Launch) (G : Gid) (bd : Nat → Nat) (S : St) (dn : Nat → Int32) (g : Nat) (hg : g < 4) : CtI l y_Md_asks b_Md_asks 2 (some .boolean) rz G [.ref (bd 0), .int (nI g)] (wM G bd S dn) 0 0 (fun r w => w = wM G bd S dn ∧ r = (if S 30 0 &&& S 10 g = 0 then 0 else 1)) := by
  refine CtI.of (own := R_Md) (L := [some (.ref (bd 0)), some (.int (nI g))]) (by decide) rfl rfl (Nat.le_of_ble_eq_true rfl) rfl (fun x X => ?_)
  refine j_aload_n X d_Md_asks_0 rfl ?_
  refine j_get X i_Md 0 rfl rfl 2 (by decide) fl_Md_62 rfl d_Md_asks_1 ?_
  refine j_aload_n X d_Md_asks_4 rfl ?_
  refine j_get X i_Md 0 rfl rfl 10 (by decide) fl_Md_29 rfl d_Md_asks_5 ?_
  refine j_iload_n X d_Md_asks_8 rfl ?_
  refine j_ialdN X 7 rfl hg (by decide) d_Md_asks_9 ?_
  refine j_iand X d_Md_asks_10 ?_
  refine j_if_eq (tgt := 18) X d_Md_asks_11 (by decide) (fun h1 => ?_) (fun h1 => ?_)
  · refine j_iconst (v := 0) X d_Md_asks_18 (by decide) ?_
    exact j_zret X (Or.inl rfl) ⟨rfl, (if_pos h1).symm⟩ d_Md_asks_19
  · refine j_iconst (v := 1) X d_Md_asks_14 (by decide) ?_
    refine j_goto (tgt := 19) X d_Md_asks_15 (by decide) ?_
    exact j_zret X (Or.inr rfl) ⟨rfl, (if_neg h1).symm⟩ d_Md_asks_19
set_option maxHeartbeats 4000000 in
set_option maxRecDepth 100000 in
theorem c_Md_set (l : Launch) (G : Gid) (bd : Nat → Nat) (S : St) (dn : Nat → Int32) (t s p o : Int32) (ho : Bz o) : CtI l y_Md_set b_Md_set 5 (some .boolean) r1 G [.ref (bd 0), .int t, .int s, .int p, .int o] (wM G bd S dn) 0 0 (fun r w => ∃ S1 dn1, PSet S t s p o r S1 ∧ w = wM G bd S1 dn1) := by
  refine CtI.of (own := R_Md) (L := [some (.ref (bd 0)), some (.int t), some (.int s), some (.int p), some (.int o)]) (by decide) rfl rfl (Nat.le_of_ble_eq_true rfl) rfl (fun x X => ?_)
  refine j_iload_n X d_Md_set_0 rfl ?_
  refine j_iconst (v := 0) X d_Md_set_1 (by decide) ?_
  refine j_bipush (v := 7) X d_Md_set_2 (by decide) ?_
  refine j_callSi0 X [.int t, .int 0, .int 7] [] (c_Md_isIn _ _ _ t 0 7) ok_Md_57 rfl (Nat.le_of_ble_eq_true rfl) ⟨Nat.le_of_ble_eq_true rfl, Nat.le_of_ble_eq_true rfl⟩ ⟨rfl, rfl⟩ rfl ⟨Nat.le_of_ble_eq_true rfl, Nat.le_of_ble_eq_true rfl⟩ d_Md_set_4 (fun r w1 hw => ?_)
  obtain ⟨rfl, hw⟩ := hw
  rcases hw with ⟨h1, rfl⟩ | ⟨h1, rfl⟩
  · have h1 : okT t := ⟨h1.1, fun h => h1.2 (lt7.mpr h)⟩
    obtain ⟨j, hj, rfl⟩ := okT_j h1
    refine j_if_eq (tgt := 37) X d_Md_set_7 (by decide) (fun h => absurd h (by decide)) (fun _ => ?_)
    refine j_iload_n X d_Md_set_10 rfl ?_
    refine j_iconst (v := 0) X d_Md_set_11 (by decide) ?_
    refine j_iload_n X d_Md_set_12 rfl ?_
    refine j_if_ne (tgt := 20) X d_Md_set_13 (by decide) (fun h3 => ?_) (fun h3 => ?_)
    · refine j_iconst (v := 1) X d_Md_set_20 (by decide) ?_
      refine j_callSi0 X [.int s, .int 0, .int 1] [] (c_Md_isIn _ _ _ s 0 1) ok_Md_57 rfl (Nat.le_of_ble_eq_true rfl) ⟨Nat.le_of_ble_eq_true rfl, Nat.le_of_ble_eq_true rfl⟩ ⟨rfl, rfl⟩ rfl ⟨Nat.le_of_ble_eq_true rfl, Nat.le_of_ble_eq_true rfl⟩ d_Md_set_21 (fun r w1 hw => ?_)
      obtain ⟨rfl, hw⟩ := hw
      rcases hw with ⟨h4, rfl⟩ | ⟨h4, rfl⟩
      · refine j_if_eq (tgt := 37) X d_Md_set_24 (by decide) (fun h => absurd h (by decide)) (fun _ => ?_)
        refine j_iload_n X d_Md_set_27 rfl ?_
        refine j_iconst (v := 1) X d_Md_set_28 (by decide) ?_
        refine j_ldc X cst_Md_61 d_Md_set_29 ?_
        refine j_callSi0 X [.int p, .int 1, .int 65535] [] (c_Md_isIn _ _ _ p 1 65535) ok_Md_57 rfl (Nat.le_of_ble_eq_true rfl) ⟨Nat.le_of_ble_eq_true rfl, Nat.le_of_ble_eq_true rfl⟩ ⟨rfl, rfl⟩ rfl ⟨Nat.le_of_ble_eq_true rfl, Nat.le_of_ble_eq_true rfl⟩ d_Md_set_31 (fun r w1 hw => ?_)
        obtain ⟨rfl, hw⟩ := hw
        rcases hw with ⟨h5, rfl⟩ | ⟨h5, rfl⟩
        · refine j_if_ne (tgt := 39) X d_Md_set_34 (by decide) (fun _ => ?_) (fun h => absurd h (by decide))
          refine j_aload_n X d_Md_set_39 rfl ?_
          refine j_get X i_Md 0 rfl rfl 6 (by decide) fl_Md_16 rfl d_Md_set_40 ?_
          refine j_iload_n X d_Md_set_43 rfl ?_
          refine j_iload_n X d_Md_set_44 rfl ?_
          refine j_iastN X 3 rfl hj (by decide) d_Md_set_45 ?_
          refine j_eqw wM_3 ?_
          refine j_aload_n X d_Md_set_46 rfl ?_
          refine j_get X i_Md 0 rfl rfl 4 (by decide) fl_Md_7 rfl d_Md_set_47 ?_
          refine j_iload_n X d_Md_set_50 rfl ?_
          refine j_iload_n X d_Md_set_51 rfl ?_
          refine j_iastN X 1 rfl hj (by decide) d_Md_set_52 ?_
          refine j_eqw wM_1 ?_
          refine j_aload_n X d_Md_set_53 rfl ?_
          refine j_get X i_Md 0 rfl rfl 5 (by decide) fl_Md_13 rfl d_Md_set_54 ?_
          refine j_iload_n X d_Md_set_57 rfl ?_
          refine j_iload_n X d_Md_set_58 rfl ?_
          refine j_iastN X 2 rfl hj (by decide) d_Md_set_59 ?_
          refine j_eqw wM_2 ?_
          refine j_aload_n X d_Md_set_60 rfl ?_
          refine j_get X i_Md 0 rfl rfl 7 (by decide) fl_Md_19 rfl d_Md_set_61 ?_
          refine j_iload_n X d_Md_set_64 rfl ?_
          refine j_iload X d_Md_set_65 rfl ?_
          refine j_zastN X 4 rfl hj (by decide) ho d_Md_set_67 ?_
          refine j_eqw wM_4 ?_
          refine j_aload_n X d_Md_set_68 rfl ?_
          refine j_get X i_Md 0 rfl rfl 8 (by decide) fl_Md_23 rfl d_Md_set_69 ?_
          refine j_iload_n X d_Md_set_72 rfl ?_
          refine j_iconst (v := 0) X d_Md_set_73 (by decide) ?_
          refine j_zastN X 5 rfl hj (by decide) (Or.inl rfl) d_Md_set_74 ?_
          refine j_eqw wM_5 ?_
          refine j_iconst (v := 1) X d_Md_set_75 (by decide) ?_
          exact j_zret X (Or.inr rfl) ⟨_, dn, Or.inl ⟨j, hj, rfl, ⟨h1, h4.1, by rw [if_neg h3]; exact h4.2, h5.1, Int32.not_lt.mp h5.2⟩, rfl, rfl⟩, rfl⟩ d_Md_set_76
        · refine j_if_ne (tgt := 39) X d_Md_set_34 (by decide) (fun h => absurd (rfl) h) (fun _ => ?_)
          refine j_iconst (v := 0) X d_Md_set_37 (by decide) ?_
          exact j_zret X (Or.inl rfl) ⟨S, dn, Or.inr ⟨fun h => h5 ⟨h.2.2.2.1, Int32.not_lt.mpr h.2.2.2.2⟩, rfl, rfl⟩, rfl⟩ d_Md_set_38
      · refine j_if_eq (tgt := 37) X d_Md_set_24 (by decide) (fun _ => ?_) (fun h => absurd (rfl) h)
        refine j_iconst (v := 0) X d_Md_set_37 (by decide) ?_
        exact j_zret X (Or.inl rfl) ⟨S, dn, Or.inr ⟨fun h => h4 ⟨h.2.1, by have h6 := h.2.2.1; rw [if_neg h3] at h6; exact h6⟩, rfl, rfl⟩, rfl⟩ d_Md_set_38
    · refine j_iconst (v := 0) X d_Md_set_16 (by decide) ?_
      refine j_goto (tgt := 21) X d_Md_set_17 (by decide) ?_
      refine j_callSi0 X [.int s, .int 0, .int 0] [] (c_Md_isIn _ _ _ s 0 0) ok_Md_57 rfl (Nat.le_of_ble_eq_true rfl) ⟨Nat.le_of_ble_eq_true rfl, Nat.le_of_ble_eq_true rfl⟩ ⟨rfl, rfl⟩ rfl ⟨Nat.le_of_ble_eq_true rfl, Nat.le_of_ble_eq_true rfl⟩ d_Md_set_21 (fun r w1 hw => ?_)
      obtain ⟨rfl, hw⟩ := hw
      rcases hw with ⟨h4, rfl⟩ | ⟨h4, rfl⟩
      · refine j_if_eq (tgt := 37) X d_Md_set_24 (by decide) (fun h => absurd h (by decide)) (fun _ => ?_)
        refine j_iload_n X d_Md_set_27 rfl ?_
        refine j_iconst (v := 1) X d_Md_set_28 (by decide) ?_
        refine j_ldc X cst_Md_61 d_Md_set_29 ?_
        refine j_callSi0 X [.int p, .int 1, .int 65535] [] (c_Md_isIn _ _ _ p 1 65535) ok_Md_57 rfl (Nat.le_of_ble_eq_true rfl) ⟨Nat.le_of_ble_eq_true rfl, Nat.le_of_ble_eq_true rfl⟩ ⟨rfl, rfl⟩ rfl ⟨Nat.le_of_ble_eq_true rfl, Nat.le_of_ble_eq_true rfl⟩ d_Md_set_31 (fun r w1 hw => ?_)
        obtain ⟨rfl, hw⟩ := hw
        rcases hw with ⟨h5, rfl⟩ | ⟨h5, rfl⟩
        · refine j_if_ne (tgt := 39) X d_Md_set_34 (by decide) (fun _ => ?_) (fun h => absurd h (by decide))
          refine j_aload_n X d_Md_set_39 rfl ?_
          refine j_get X i_Md 0 rfl rfl 6 (by decide) fl_Md_16 rfl d_Md_set_40 ?_
          refine j_iload_n X d_Md_set_43 rfl ?_
          refine j_iload_n X d_Md_set_44 rfl ?_
          refine j_iastN X 3 rfl hj (by decide) d_Md_set_45 ?_
          refine j_eqw wM_3 ?_
          refine j_aload_n X d_Md_set_46 rfl ?_
          refine j_get X i_Md 0 rfl rfl 4 (by decide) fl_Md_7 rfl d_Md_set_47 ?_
          refine j_iload_n X d_Md_set_50 rfl ?_
          refine j_iload_n X d_Md_set_51 rfl ?_
          refine j_iastN X 1 rfl hj (by decide) d_Md_set_52 ?_
          refine j_eqw wM_1 ?_
          refine j_aload_n X d_Md_set_53 rfl ?_
          refine j_get X i_Md 0 rfl rfl 5 (by decide) fl_Md_13 rfl d_Md_set_54 ?_
          refine j_iload_n X d_Md_set_57 rfl ?_
          refine j_iload_n X d_Md_set_58 rfl ?_
          refine j_iastN X 2 rfl hj (by decide) d_Md_set_59 ?_
          refine j_eqw wM_2 ?_
          refine j_aload_n X d_Md_set_60 rfl ?_
          refine j_get X i_Md 0 rfl rfl 7 (by decide) fl_Md_19 rfl d_Md_set_61 ?_
          refine j_iload_n X d_Md_set_64 rfl ?_
          refine j_iload X d_Md_set_65 rfl ?_
          refine j_zastN X 4 rfl hj (by decide) ho d_Md_set_67 ?_
          refine j_eqw wM_4 ?_
          refine j_aload_n X d_Md_set_68 rfl ?_
          refine j_get X i_Md 0 rfl rfl 8 (by decide) fl_Md_23 rfl d_Md_set_69 ?_
          refine j_iload_n X d_Md_set_72 rfl ?_
          refine j_iconst (v := 0) X d_Md_set_73 (by decide) ?_
          refine j_zastN X 5 rfl hj (by decide) (Or.inl rfl) d_Md_set_74 ?_
          refine j_eqw wM_5 ?_
          refine j_iconst (v := 1) X d_Md_set_75 (by decide) ?_
          exact j_zret X (Or.inr rfl) ⟨_, dn, Or.inl ⟨j, hj, rfl, ⟨h1, h4.1, by rw [if_pos h3]; exact h4.2, h5.1, Int32.not_lt.mp h5.2⟩, rfl, rfl⟩, rfl⟩ d_Md_set_76
        · refine j_if_ne (tgt := 39) X d_Md_set_34 (by decide) (fun h => absurd (rfl) h) (fun _ => ?_)
          refine j_iconst (v := 0) X d_Md_set_37 (by decide) ?_
          exact j_zret X (Or.inl rfl) ⟨S, dn, Or.inr ⟨fun h => h5 ⟨h.2.2.2.1, Int32.not_lt.mpr h.2.2.2.2⟩, rfl, rfl⟩, rfl⟩ d_Md_set_38
      · refine j_if_eq (tgt := 37) X d_Md_set_24 (by decide) (fun _ => ?_) (fun h => absurd (rfl) h)
        refine j_iconst (v := 0) X d_Md_set_37 (by decide) ?_
        exact j_zret X (Or.inl rfl) ⟨S, dn, Or.inr ⟨fun h => h4 ⟨h.2.1, by have h6 := h.2.2.1; rw [if_pos h3] at h6; exact h6⟩, rfl, rfl⟩, rfl⟩ d_Md_set_38
  · refine j_if_eq (tgt := 37) X d_Md_set_7 (by decide) (fun _ => ?_) (fun h => absurd (rfl) h)
    refine j_iconst (v := 0) X d_Md_set_37 (by decide) ?_
    exact j_zret X (Or.inl rfl) ⟨S, dn, Or.inr ⟨fun h => h1 ⟨h.1.1, fun z => h.1.2 (lt7.mp z)⟩, rfl, rfl⟩, rfl⟩ d_Md_set_38
set_option maxHeartbeats 4000000 in
set_option maxRecDepth 100000 in
theorem c_Md_turn (l : Launch) (G : Gid) (bd : Nat → Nat) (S : St) (dn : Nat → Int32) (t on : Int32) (ho : Bz on) : CtI l y_Md_turn b_Md_turn 3 (some .boolean) r1 G [.ref (bd 0), .int t, .int on] (wM G bd S dn) 0 0 (fun r w => ∃ S1 dn1, PTurn S t on r S1 ∧ w = wM G bd S1 dn1) := by
  refine CtI.of (own := R_Md) (L := [some (.ref (bd 0)), some (.int t), some (.int on)]) (by decide) rfl rfl (Nat.le_of_ble_eq_true rfl) rfl (fun x X => ?_)
  refine j_iload_n X d_Md_turn_0 rfl ?_
  refine j_iconst (v := 0) X d_Md_turn_1 (by decide) ?_
  refine j_bipush (v := 7) X d_Md_turn_2 (by decide) ?_
  refine j_callSi0 X [.int t, .int 0, .int 7] [] (c_Md_isIn _ _ _ t 0 7) ok_Md_57 rfl (Nat.le_of_ble_eq_true rfl) ⟨Nat.le_of_ble_eq_true rfl, Nat.le_of_ble_eq_true rfl⟩ ⟨rfl, rfl⟩ rfl ⟨Nat.le_of_ble_eq_true rfl, Nat.le_of_ble_eq_true rfl⟩ d_Md_turn_4 (fun r w1 hw => ?_)
  obtain ⟨rfl, hw⟩ := hw
  rcases hw with ⟨h1, rfl⟩ | ⟨h1, rfl⟩
  · have h1 : okT t := ⟨h1.1, fun h => h1.2 (lt7.mpr h)⟩
    obtain ⟨j, hj, rfl⟩ := okT_j h1
    refine j_if_eq (tgt := 20) X d_Md_turn_7 (by decide) (fun h => absurd h (by decide)) (fun _ => ?_)
    refine j_aload_n X d_Md_turn_10 rfl ?_
    refine j_get X i_Md 0 rfl rfl 8 (by decide) fl_Md_23 rfl d_Md_turn_11 ?_
    refine j_iload_n X d_Md_turn_14 rfl ?_
    refine j_zaldN X 5 rfl hj (by decide) d_Md_turn_15 ?_
    refine j_iload_n X d_Md_turn_16 rfl ?_
    refine j_icmp_ne (tgt := 22) X d_Md_turn_17 (by decide) (fun h2 => ?_) (fun h2 => ?_)
    · refine j_aload_n X d_Md_turn_22 rfl ?_
      refine j_get X i_Md 0 rfl rfl 8 (by decide) fl_Md_23 rfl d_Md_turn_23 ?_
      refine j_iload_n X d_Md_turn_26 rfl ?_
      refine j_iload_n X d_Md_turn_27 rfl ?_
      refine j_zastN X 5 rfl hj (by decide) ho d_Md_turn_28 ?_
      refine j_eqw wM_5 ?_
      refine j_iconst (v := 1) X d_Md_turn_29 (by decide) ?_
      exact j_zret X (Or.inr rfl) ⟨_, dn, Or.inl ⟨j, hj, rfl, h2, rfl, rfl⟩, rfl⟩ d_Md_turn_30
    · refine j_iconst (v := 0) X d_Md_turn_20 (by decide) ?_
      exact j_zret X (Or.inl rfl) ⟨S, dn, Or.inr ⟨fun i hi e => by rw [← (nI_eq (by omega) (by omega)).mp e]; exact h2, rfl, rfl⟩, rfl⟩ d_Md_turn_21
  · refine j_if_eq (tgt := 20) X d_Md_turn_7 (by decide) (fun _ => ?_) (fun h => absurd (rfl) h)
    refine j_iconst (v := 0) X d_Md_turn_20 (by decide) ?_
    exact j_zret X (Or.inl rfl) ⟨S, dn, Or.inr ⟨fun i hi e => absurd (by rw [e]; exact ⟨(okT_of hi).1, fun z => (okT_of hi).2 (lt7.mp z)⟩) h1, rfl, rfl⟩, rfl⟩ d_Md_turn_21
set_option maxHeartbeats 4000000 in
set_option maxRecDepth 100000 in
theorem c_Md_gate (l : Launch) (G : Gid) (bd : Nat → Nat) (S : St) (dn : Nat → Int32) (g m d : Int32) : CtI l y_Md_gate b_Md_gate 4 (some .boolean) r1 G [.ref (bd 0), .int g, .int m, .int d] (wM G bd S dn) 0 0 (fun r w => ∃ S1 dn1, PGate S g m d r S1 ∧ w = wM G bd S1 dn1) := by
  refine CtI.of (own := R_Md) (L := [some (.ref (bd 0)), some (.int g), some (.int m), some (.int d)]) (by decide) rfl rfl (Nat.le_of_ble_eq_true rfl) rfl (fun x X => ?_)
  refine j_iload_n X d_Md_gate_0 rfl ?_
  refine j_iconst (v := 0) X d_Md_gate_1 (by decide) ?_
  refine j_iconst (v := 3) X d_Md_gate_2 (by decide) ?_
  refine j_callSi0 X [.int g, .int 0, .int 3] [] (c_Md_isIn _ _ _ g 0 3) ok_Md_57 rfl (Nat.le_of_ble_eq_true rfl) ⟨Nat.le_of_ble_eq_true rfl, Nat.le_of_ble_eq_true rfl⟩ ⟨rfl, rfl⟩ rfl ⟨Nat.le_of_ble_eq_true rfl, Nat.le_of_ble_eq_true rfl⟩ d_Md_gate_3 (fun r w1 hw => ?_)
  obtain ⟨rfl, hw⟩ := hw
  rcases hw with ⟨h1, rfl⟩ | ⟨h1, rfl⟩
  · have h1 : okG g := ⟨h1.1, fun h => h1.2 (lt3.mpr h)⟩
    obtain ⟨j, hj, rfl⟩ := okG_j h1
    refine j_if_eq (tgt := 31) X d_Md_gate_6 (by decide) (fun h => absurd h (by decide)) (fun _ => ?_)
    refine j_iload_n X d_Md_gate_9 rfl ?_
    refine j_iconst (v := 0) X d_Md_gate_10 (by decide) ?_
    refine j_sipush (v := 255) X d_Md_gate_11 (by decide) ?_
    refine j_callSi0 X [.int m, .int 0, .int 255] [] (c_Md_isIn _ _ _ m 0 255) ok_Md_57 rfl (Nat.le_of_ble_eq_true rfl) ⟨Nat.le_of_ble_eq_true rfl, Nat.le_of_ble_eq_true rfl⟩ ⟨rfl, rfl⟩ rfl ⟨Nat.le_of_ble_eq_true rfl, Nat.le_of_ble_eq_true rfl⟩ d_Md_gate_14 (fun r w1 hw => ?_)
    obtain ⟨rfl, hw⟩ := hw
    rcases hw with ⟨h2, rfl⟩ | ⟨h2, rfl⟩
    · refine j_if_eq (tgt := 31) X d_Md_gate_17 (by decide) (fun h => absurd h (by decide)) (fun _ => ?_)
      refine j_iload_n X d_Md_gate_20 rfl ?_
      refine j_iconst (v := 1) X d_Md_gate_21 (by decide) ?_
      refine j_sipush (v := 1000) X d_Md_gate_22 (by decide) ?_
      refine j_callSi0 X [.int d, .int 1, .int 1000] [] (c_Md_isIn _ _ _ d 1 1000) ok_Md_57 rfl (Nat.le_of_ble_eq_true rfl) ⟨Nat.le_of_ble_eq_true rfl, Nat.le_of_ble_eq_true rfl⟩ ⟨rfl, rfl⟩ rfl ⟨Nat.le_of_ble_eq_true rfl, Nat.le_of_ble_eq_true rfl⟩ d_Md_gate_25 (fun r w1 hw => ?_)
      obtain ⟨rfl, hw⟩ := hw
      rcases hw with ⟨h3, rfl⟩ | ⟨h3, rfl⟩
      · refine j_if_ne (tgt := 33) X d_Md_gate_28 (by decide) (fun _ => ?_) (fun h => absurd h (by decide))
        refine j_aload_n X d_Md_gate_33 rfl ?_
        refine j_get X i_Md 0 rfl rfl 10 (by decide) fl_Md_29 rfl d_Md_gate_34 ?_
        refine j_iload_n X d_Md_gate_37 rfl ?_
        refine j_iload_n X d_Md_gate_38 rfl ?_
        refine j_iastN X 7 rfl hj (by decide) d_Md_gate_39 ?_
        refine j_eqw wM_7 ?_
        refine j_aload_n X d_Md_gate_40 rfl ?_
        refine j_get X i_Md 0 rfl rfl 11 (by decide) fl_Md_32 rfl d_Md_gate_41 ?_
        refine j_iload_n X d_Md_gate_44 rfl ?_
        refine j_iload_n X d_Md_gate_45 rfl ?_
        refine j_iastN X 8 rfl hj (by decide) d_Md_gate_46 ?_
        refine j_eqw wM_8 ?_
        refine j_iconst (v := 1) X d_Md_gate_47 (by decide) ?_
        exact j_zret X (Or.inr rfl) ⟨_, dn, Or.inl ⟨j, hj, rfl, ⟨h1, h2.1, h2.2, h3.1, Int32.not_lt.mp h3.2⟩, rfl, rfl⟩, rfl⟩ d_Md_gate_48
      · refine j_if_ne (tgt := 33) X d_Md_gate_28 (by decide) (fun h => absurd (rfl) h) (fun _ => ?_)
        refine j_iconst (v := 0) X d_Md_gate_31 (by decide) ?_
        exact j_zret X (Or.inl rfl) ⟨S, dn, Or.inr ⟨fun h => h3 ⟨h.2.2.2.1, Int32.not_lt.mpr h.2.2.2.2⟩, rfl, rfl⟩, rfl⟩ d_Md_gate_32
    · refine j_if_eq (tgt := 31) X d_Md_gate_17 (by decide) (fun _ => ?_) (fun h => absurd (rfl) h)
      refine j_iconst (v := 0) X d_Md_gate_31 (by decide) ?_
      exact j_zret X (Or.inl rfl) ⟨S, dn, Or.inr ⟨fun h => h2 ⟨h.2.1, h.2.2.1⟩, rfl, rfl⟩, rfl⟩ d_Md_gate_32
  · refine j_if_eq (tgt := 31) X d_Md_gate_6 (by decide) (fun _ => ?_) (fun h => absurd (rfl) h)
    refine j_iconst (v := 0) X d_Md_gate_31 (by decide) ?_
    exact j_zret X (Or.inl rfl) ⟨S, dn, Or.inr ⟨fun h => h1 ⟨h.1.1, fun z => h.1.2 (lt3.mp z)⟩, rfl, rfl⟩, rfl⟩ d_Md_gate_32
set_option maxHeartbeats 4000000 in
set_option maxRecDepth 100000 in
theorem c_Md_timer (l : Launch) (G : Gid) (bd : Nat → Nat) (S : St) (dn : Nat → Int32) (hR : ∀ j, Bz (S 3 j)) (hO : ∀ j, Bz (S 4 j)) (t w : Int32) : CtI l y_Md_timer b_Md_timer 3 (some .int) r1 G [.ref (bd 0), .int t, .int w] (wM G bd S dn) 0 0 (fun r w1 => w1 = wM G bd S dn ∧ PTimer S t w r) := by
  refine CtI.of (own := R_Md) (L := [some (.ref (bd 0)), some (.int t), some (.int w)]) (by decide) rfl rfl (Nat.le_of_ble_eq_true rfl) rfl (fun x X => ?_)
  refine j_iload_n X d_Md_timer_0 rfl ?_
  refine j_iconst (v := 0) X d_Md_timer_1 (by decide) ?_
  refine j_bipush (v := 7) X d_Md_timer_2 (by decide) ?_
  refine j_callSi0 X [.int t, .int 0, .int 7] [] (c_Md_isIn _ _ _ t 0 7) ok_Md_57 rfl (Nat.le_of_ble_eq_true rfl) ⟨Nat.le_of_ble_eq_true rfl, Nat.le_of_ble_eq_true rfl⟩ ⟨rfl, rfl⟩ rfl ⟨Nat.le_of_ble_eq_true rfl, Nat.le_of_ble_eq_true rfl⟩ d_Md_timer_4 (fun r w1 hw => ?_)
  obtain ⟨rfl, hw⟩ := hw
  rcases hw with ⟨h1, rfl⟩ | ⟨h1, rfl⟩
  · have h1 : okT t := ⟨h1.1, fun h => h1.2 (lt7.mpr h)⟩
    obtain ⟨j, hj, rfl⟩ := okT_j h1
    refine j_if_ne (tgt := 12) X d_Md_timer_7 (by decide) (fun _ => ?_) (fun h => absurd h (by decide))
    refine j_iload_n X d_Md_timer_12 rfl ?_
    rcases sw_9 w with hs | hs
    · rcases hs with rfl | rfl | rfl | rfl | rfl | rfl | rfl | rfl | rfl
      · refine j_tableIn (tgt := 64) X d_Md_timer_13 (by decide) (by decide) rfl (by decide) ?_
        refine j_aload_n X d_Md_timer_64 rfl ?_
        refine j_get X i_Md 0 rfl rfl 5 (by decide) fl_Md_13 rfl d_Md_timer_65 ?_
        refine j_iload_n X d_Md_timer_68 rfl ?_
        refine j_ialdN X 2 rfl hj (by decide) d_Md_timer_69 ?_
        exact j_iret X ⟨rfl, Or.inl ⟨j, hj, rfl, rfl⟩⟩ d_Md_timer_70
      · refine j_tableIn (tgt := 71) X d_Md_timer_13 (by decide) (by decide) rfl (by decide) ?_
        refine j_aload_n X d_Md_timer_71 rfl ?_
        refine j_get X i_Md 0 rfl rfl 4 (by decide) fl_Md_7 rfl d_Md_timer_72 ?_
        refine j_iload_n X d_Md_timer_75 rfl ?_
        refine j_ialdN X 1 rfl hj (by decide) d_Md_timer_76 ?_
        exact j_iret X ⟨rfl, Or.inl ⟨j, hj, rfl, rfl⟩⟩ d_Md_timer_77
      · refine j_tableIn (tgt := 78) X d_Md_timer_13 (by decide) (by decide) rfl (by decide) ?_
        refine j_aload_n X d_Md_timer_78 rfl ?_
        refine j_get X i_Md 0 rfl rfl 6 (by decide) fl_Md_16 rfl d_Md_timer_79 ?_
        refine j_iload_n X d_Md_timer_82 rfl ?_
        refine j_ialdN X 3 rfl hj (by decide) d_Md_timer_83 ?_
        exact j_iret X ⟨rfl, Or.inl ⟨j, hj, rfl, rfl⟩⟩ d_Md_timer_84
      · refine j_tableIn (tgt := 85) X d_Md_timer_13 (by decide) (by decide) rfl (by decide) ?_
        refine j_aload_n X d_Md_timer_85 rfl ?_
        refine j_get X i_Md 0 rfl rfl 8 (by decide) fl_Md_23 rfl d_Md_timer_86 ?_
        refine j_iload_n X d_Md_timer_89 rfl ?_
        refine j_zaldN X 5 rfl hj (by decide) d_Md_timer_90 ?_
        refine j_if_eq (tgt := 98) X d_Md_timer_91 (by decide) (fun hz => ?_) (fun hz => ?_)
        · refine j_iconst (v := 0) X d_Md_timer_98 (by decide) ?_
          exact j_iret X ⟨rfl, Or.inl ⟨j, hj, rfl, hz.symm⟩⟩ d_Md_timer_99
        · refine j_iconst (v := 1) X d_Md_timer_94 (by decide) ?_
          refine j_goto (tgt := 99) X d_Md_timer_95 (by decide) ?_
          exact j_iret X ⟨rfl, Or.inl ⟨j, hj, rfl, (by rcases hR j with e | e; exact absurd e hz; exact e.symm)⟩⟩ d_Md_timer_99
      · refine j_tableIn (tgt := 100) X d_Md_timer_13 (by decide) (by decide) rfl (by decide) ?_
        refine j_aload_n X d_Md_timer_100 rfl ?_
        refine j_get X i_Md 0 rfl rfl 7 (by decide) fl_Md_19 rfl d_Md_timer_101 ?_
        refine j_iload_n X d_Md_timer_104 rfl ?_
        refine j_zaldN X 4 rfl hj (by decide) d_Md_timer_105 ?_
        refine j_if_eq (tgt := 113) X d_Md_timer_106 (by decide) (fun hz => ?_) (fun hz => ?_)
        · refine j_iconst (v := 0) X d_Md_timer_113 (by decide) ?_
          exact j_iret X ⟨rfl, Or.inl ⟨j, hj, rfl, hz.symm⟩⟩ d_Md_timer_114
        · refine j_iconst (v := 1) X d_Md_timer_109 (by decide) ?_
          refine j_goto (tgt := 114) X d_Md_timer_110 (by decide) ?_
          exact j_iret X ⟨rfl, Or.inl ⟨j, hj, rfl, (by rcases hO j with e | e; exact absurd e hz; exact e.symm)⟩⟩ d_Md_timer_114
      · refine j_tableIn (tgt := 115) X d_Md_timer_13 (by decide) (by decide) rfl (by decide) ?_
        refine j_aload_n X d_Md_timer_115 rfl ?_
        refine j_get X i_Md 0 rfl rfl 9 (by decide) fl_Md_26 rfl d_Md_timer_116 ?_
        refine j_iconst (v := 4) X d_Md_timer_119 (by decide) ?_
        refine j_iload_n X d_Md_timer_120 rfl ?_
        refine j_imul X d_Md_timer_121 ?_
        refine j_top (ix4z j) ?_
        refine j_ialdN X 6 rfl (show 4 * j + 0 < 32 by omega) (by decide) d_Md_timer_122 ?_
        exact j_iret X ⟨rfl, Or.inl ⟨j, hj, rfl, oft_k 0 (by decide)⟩⟩ d_Md_timer_123
      · refine j_tableIn (tgt := 124) X d_Md_timer_13 (by decide) (by decide) rfl (by decide) ?_
        refine j_aload_n X d_Md_timer_124 rfl ?_
        refine j_get X i_Md 0 rfl rfl 9 (by decide) fl_Md_26 rfl d_Md_timer_125 ?_
        refine j_iconst (v := 4) X d_Md_timer_128 (by decide) ?_
        refine j_iload_n X d_Md_timer_129 rfl ?_
        refine j_imul X d_Md_timer_130 ?_
        refine j_iconst (v := 1) X d_Md_timer_131 (by decide) ?_
        refine j_iadd X d_Md_timer_132 ?_
        refine j_top (ix4 j 1) ?_
        refine j_ialdN X 6 rfl (show 4 * j + 1 < 32 by omega) (by decide) d_Md_timer_133 ?_
        exact j_iret X ⟨rfl, Or.inl ⟨j, hj, rfl, oft_k 1 (by decide)⟩⟩ d_Md_timer_134
      · refine j_tableIn (tgt := 135) X d_Md_timer_13 (by decide) (by decide) rfl (by decide) ?_
        refine j_aload_n X d_Md_timer_135 rfl ?_
        refine j_get X i_Md 0 rfl rfl 9 (by decide) fl_Md_26 rfl d_Md_timer_136 ?_
        refine j_iconst (v := 4) X d_Md_timer_139 (by decide) ?_
        refine j_iload_n X d_Md_timer_140 rfl ?_
        refine j_imul X d_Md_timer_141 ?_
        refine j_iconst (v := 2) X d_Md_timer_142 (by decide) ?_
        refine j_iadd X d_Md_timer_143 ?_
        refine j_top (ix4 j 2) ?_
        refine j_ialdN X 6 rfl (show 4 * j + 2 < 32 by omega) (by decide) d_Md_timer_144 ?_
        exact j_iret X ⟨rfl, Or.inl ⟨j, hj, rfl, oft_k 2 (by decide)⟩⟩ d_Md_timer_145
      · refine j_tableIn (tgt := 146) X d_Md_timer_13 (by decide) (by decide) rfl (by decide) ?_
        refine j_aload_n X d_Md_timer_146 rfl ?_
        refine j_get X i_Md 0 rfl rfl 9 (by decide) fl_Md_26 rfl d_Md_timer_147 ?_
        refine j_iconst (v := 4) X d_Md_timer_150 (by decide) ?_
        refine j_iload_n X d_Md_timer_151 rfl ?_
        refine j_imul X d_Md_timer_152 ?_
        refine j_iconst (v := 3) X d_Md_timer_153 (by decide) ?_
        refine j_iadd X d_Md_timer_154 ?_
        refine j_top (ix4 j 3) ?_
        refine j_ialdN X 6 rfl (show 4 * j + 3 < 32 by omega) (by decide) d_Md_timer_155 ?_
        exact j_iret X ⟨rfl, Or.inl ⟨j, hj, rfl, oft_k 3 (by decide)⟩⟩ d_Md_timer_156
    · refine j_tableOut (tgt := 157) X d_Md_timer_13 hs (by decide) ?_
      refine j_iconst (v := -1) X d_Md_timer_157 (by decide) ?_
      refine j_iret X ⟨rfl, Or.inl ⟨j, hj, rfl, ?_⟩⟩ d_Md_timer_158
      unfold timR
      rw [if_neg (ne_of_out hs (by decide) (by decide)), if_neg (ne_of_out hs (by decide) (by decide)), if_neg (ne_of_out hs (by decide) (by decide)), if_neg (ne_of_out hs (by decide) (by decide)), if_neg (ne_of_out hs (by decide) (by decide)), if_neg (ne_of_out hs (by decide) (by decide)), if_neg (ne_of_out hs (by decide) (by decide)), if_neg (ne_of_out hs (by decide) (by decide)), if_neg (ne_of_out hs (by decide) (by decide))]
  · refine j_if_ne (tgt := 12) X d_Md_timer_7 (by decide) (fun h => absurd (rfl) h) (fun _ => ?_)
    refine j_iconst (v := -1) X d_Md_timer_10 (by decide) ?_
    exact j_iret X ⟨rfl, Or.inr ⟨fun h => h1 ⟨h.1, fun z => h.2 (lt7.mp z)⟩, rfl⟩⟩ d_Md_timer_11
set_option maxHeartbeats 4000000 in
set_option maxRecDepth 100000 in
theorem c_Md_gateOf (l : Launch) (G : Gid) (bd : Nat → Nat) (S : St) (dn : Nat → Int32) (g w : Int32) : CtI l y_Md_gateOf b_Md_gateOf 3 (some .int) r1 G [.ref (bd 0), .int g, .int w] (wM G bd S dn) 0 0 (fun r w1 => w1 = wM G bd S dn ∧ PGateOf S g w r) := by
  refine CtI.of (own := R_Md) (L := [some (.ref (bd 0)), some (.int g), some (.int w)]) (by decide) rfl rfl (Nat.le_of_ble_eq_true rfl) rfl (fun x X => ?_)
  refine j_iload_n X d_Md_gateOf_0 rfl ?_
  refine j_iconst (v := 0) X d_Md_gateOf_1 (by decide) ?_
  refine j_iconst (v := 3) X d_Md_gateOf_2 (by decide) ?_
  refine j_callSi0 X [.int g, .int 0, .int 3] [] (c_Md_isIn _ _ _ g 0 3) ok_Md_57 rfl (Nat.le_of_ble_eq_true rfl) ⟨Nat.le_of_ble_eq_true rfl, Nat.le_of_ble_eq_true rfl⟩ ⟨rfl, rfl⟩ rfl ⟨Nat.le_of_ble_eq_true rfl, Nat.le_of_ble_eq_true rfl⟩ d_Md_gateOf_3 (fun r w1 hw => ?_)
  obtain ⟨rfl, hw⟩ := hw
  rcases hw with ⟨h1, rfl⟩ | ⟨h1, rfl⟩
  · have h1 : okG g := ⟨h1.1, fun h => h1.2 (lt3.mpr h)⟩
    obtain ⟨j, hj, rfl⟩ := okG_j h1
    refine j_if_ne (tgt := 11) X d_Md_gateOf_6 (by decide) (fun _ => ?_) (fun h => absurd h (by decide))
    refine j_iload_n X d_Md_gateOf_11 rfl ?_
    rcases sw_7 w with hs | hs
    · rcases hs with rfl | rfl | rfl | rfl | rfl | rfl | rfl
      · refine j_tableIn (tgt := 56) X d_Md_gateOf_12 (by decide) (by decide) rfl (by decide) ?_
        refine j_aload_n X d_Md_gateOf_56 rfl ?_
        refine j_iload_n X d_Md_gateOf_57 rfl ?_
        refine j_callVi0 X [.int (nI j)] [] (c_Md_asks _ _ _ _ _ j hj) ok_Md_65 (q0 := 0) rfl rfl rfl (Nat.le_of_ble_eq_true rfl) ⟨Nat.le_of_ble_eq_true rfl, Nat.le_of_ble_eq_true rfl⟩ ⟨rfl, rfl⟩ rfl ⟨Nat.le_of_ble_eq_true rfl, Nat.le_of_ble_eq_true rfl⟩ d_Md_gateOf_58 (fun r w1 hw => ?_)
        obtain ⟨rfl, rfl⟩ := hw
        refine j_if_eq (tgt := 68) X d_Md_gateOf_61 (by decide) (fun hz => ?_) (fun hz => ?_)
        · refine j_iconst (v := 0) X d_Md_gateOf_68 (by decide) ?_
          exact j_iret X ⟨rfl, Or.inl ⟨j, hj, rfl, hz.symm⟩⟩ d_Md_gateOf_69
        · refine j_iconst (v := 1) X d_Md_gateOf_64 (by decide) ?_
          refine j_goto (tgt := 69) X d_Md_gateOf_65 (by decide) ?_
          refine j_iret X ⟨rfl, Or.inl ⟨j, hj, rfl, ?_⟩⟩ d_Md_gateOf_69
          show (1 : Int32) = if S 30 0 &&& S 10 j = 0 then 0 else 1
          by_cases e : S 30 0 &&& S 10 j = 0
          · exact absurd (if_pos e) hz
          · rw [if_neg e]
      · refine j_tableIn (tgt := 70) X d_Md_gateOf_12 (by decide) (by decide) rfl (by decide) ?_
        refine j_aload_n X d_Md_gateOf_70 rfl ?_
        refine j_get X i_Md 0 rfl rfl 12 (by decide) fl_Md_35 rfl d_Md_gateOf_71 ?_
        refine j_iload_n X d_Md_gateOf_74 rfl ?_
        refine j_ialdN X 9 rfl hj (by decide) d_Md_gateOf_75 ?_
        exact j_iret X ⟨rfl, Or.inl ⟨j, hj, rfl, rfl⟩⟩ d_Md_gateOf_76
      · refine j_tableIn (tgt := 77) X d_Md_gateOf_12 (by decide) (by decide) rfl (by decide) ?_
        refine j_aload_n X d_Md_gateOf_77 rfl ?_
        refine j_get X i_Md 0 rfl rfl 10 (by decide) fl_Md_29 rfl d_Md_gateOf_78 ?_
        refine j_iload_n X d_Md_gateOf_81 rfl ?_
        refine j_ialdN X 7 rfl hj (by decide) d_Md_gateOf_82 ?_
        exact j_iret X ⟨rfl, Or.inl ⟨j, hj, rfl, rfl⟩⟩ d_Md_gateOf_83
      · refine j_tableIn (tgt := 84) X d_Md_gateOf_12 (by decide) (by decide) rfl (by decide) ?_
        refine j_aload_n X d_Md_gateOf_84 rfl ?_
        refine j_get X i_Md 0 rfl rfl 11 (by decide) fl_Md_32 rfl d_Md_gateOf_85 ?_
        refine j_iload_n X d_Md_gateOf_88 rfl ?_
        refine j_ialdN X 8 rfl hj (by decide) d_Md_gateOf_89 ?_
        exact j_iret X ⟨rfl, Or.inl ⟨j, hj, rfl, rfl⟩⟩ d_Md_gateOf_90
      · refine j_tableIn (tgt := 91) X d_Md_gateOf_12 (by decide) (by decide) rfl (by decide) ?_
        refine j_aload_n X d_Md_gateOf_91 rfl ?_
        refine j_get X i_Md 0 rfl rfl 14 (by decide) fl_Md_41 rfl d_Md_gateOf_92 ?_
        refine j_iload_n X d_Md_gateOf_95 rfl ?_
        refine j_ialdN X 11 rfl hj (by decide) d_Md_gateOf_96 ?_
        exact j_iret X ⟨rfl, Or.inl ⟨j, hj, rfl, rfl⟩⟩ d_Md_gateOf_97
      · refine j_tableIn (tgt := 98) X d_Md_gateOf_12 (by decide) (by decide) rfl (by decide) ?_
        refine j_aload_n X d_Md_gateOf_98 rfl ?_
        refine j_get X i_Md 0 rfl rfl 15 (by decide) fl_Md_44 rfl d_Md_gateOf_99 ?_
        refine j_iload_n X d_Md_gateOf_102 rfl ?_
        refine j_ialdN X 12 rfl hj (by decide) d_Md_gateOf_103 ?_
        exact j_iret X ⟨rfl, Or.inl ⟨j, hj, rfl, rfl⟩⟩ d_Md_gateOf_104
      · refine j_tableIn (tgt := 105) X d_Md_gateOf_12 (by decide) (by decide) rfl (by decide) ?_
        refine j_aload_n X d_Md_gateOf_105 rfl ?_
        refine j_get X i_Md 0 rfl rfl 16 (by decide) fl_Md_47 rfl d_Md_gateOf_106 ?_
        refine j_iload_n X d_Md_gateOf_109 rfl ?_
        refine j_ialdN X 13 rfl hj (by decide) d_Md_gateOf_110 ?_
        exact j_iret X ⟨rfl, Or.inl ⟨j, hj, rfl, rfl⟩⟩ d_Md_gateOf_111
    · refine j_tableOut (tgt := 112) X d_Md_gateOf_12 hs (by decide) ?_
      refine j_iconst (v := -1) X d_Md_gateOf_112 (by decide) ?_
      refine j_iret X ⟨rfl, Or.inl ⟨j, hj, rfl, ?_⟩⟩ d_Md_gateOf_113
      unfold gatR
      rw [if_neg (ne_of_out hs (by decide) (by decide)), if_neg (ne_of_out hs (by decide) (by decide)), if_neg (ne_of_out hs (by decide) (by decide)), if_neg (ne_of_out hs (by decide) (by decide)), if_neg (ne_of_out hs (by decide) (by decide)), if_neg (ne_of_out hs (by decide) (by decide)), if_neg (ne_of_out hs (by decide) (by decide))]
  · refine j_if_ne (tgt := 11) X d_Md_gateOf_6 (by decide) (fun h => absurd (rfl) h) (fun _ => ?_)
    refine j_iconst (v := -1) X d_Md_gateOf_9 (by decide) ?_
    exact j_iret X ⟨rfl, Or.inr ⟨fun h => h1 ⟨h.1, fun z => h.2 (lt3.mp z)⟩, rfl⟩⟩ d_Md_gateOf_10
set_option maxHeartbeats 4000000 in
set_option maxRecDepth 100000 in
theorem c_Md_served (l : Launch) (G : Gid) (bd : Nat → Nat) (S : St) (dn : Nat → Int32) (n : Nat) (hn : S 32 0 = nI n) (hn1 : n < 2 ^ 31) (i w : Int32) : CtI l y_Md_served b_Md_served 3 (some .int) r1 G [.ref (bd 0), .int i, .int w] (wM G bd S dn) 0 0 (fun r w1 => w1 = wM G bd S dn ∧ PServed S i w r) := by
  refine CtI.of (own := R_Md) (L := [some (.ref (bd 0)), some (.int i), some (.int w)]) (by decide) rfl rfl (Nat.le_of_ble_eq_true rfl) rfl (fun x X => ?_)
  refine j_iload_n X d_Md_served_0 rfl ?_
  refine j_iconst (v := 0) X d_Md_served_1 (by decide) ?_
  refine j_bipush (v := 15) X d_Md_served_2 (by decide) ?_
  refine j_callSi0 X [.int i, .int 0, .int 15] [] (c_Md_isIn _ _ _ i 0 15) ok_Md_57 rfl (Nat.le_of_ble_eq_true rfl) ⟨Nat.le_of_ble_eq_true rfl, Nat.le_of_ble_eq_true rfl⟩ ⟨rfl, rfl⟩ rfl ⟨Nat.le_of_ble_eq_true rfl, Nat.le_of_ble_eq_true rfl⟩ d_Md_served_4 (fun r w1 hw => ?_)
  obtain ⟨rfl, hw⟩ := hw
  rcases hw with ⟨h1, rfl⟩ | ⟨h1, rfl⟩
  · have h16 : ¬ 16 ≤ i := fun h => h1.2 (lt15.mpr h)
    have hi : ∃ a : Nat, a < 16 ∧ i = nI a := by
      rcases pk_ix i (n := 16) (by decide) with z | z | z
      · exact absurd z h1.1
      · exact absurd z h16
      · exact z
    obtain ⟨a, ha, rfl⟩ := hi
    refine j_if_eq (tgt := 27) X d_Md_served_7 (by decide) (fun h => absurd h (by decide)) (fun _ => ?_)
    refine j_iload_n X d_Md_served_10 rfl ?_
    refine j_aload_n X d_Md_served_11 rfl ?_
    refine j_get X i_Md 0 rfl rfl 3 (by decide) fl_Md_72 rfl d_Md_served_12 ?_
    refine j_icmp_ge (tgt := 27) X d_Md_served_15 (by decide) (fun h3 => ?_) (fun h3 => ?_)
    · refine j_iconst (v := -1) X d_Md_served_27 (by decide) ?_
      exact j_iret X ⟨rfl, Or.inr ⟨Or.inl (fun h => absurd h3 (Int32.not_le.mpr h.2.2)), rfl⟩⟩ d_Md_served_28
    · have han : a < n := by rw [hn] at h3; exact (nI_ltI (by omega) hn1).mp (Int32.not_le.mp h3)
      refine j_iload_n X d_Md_served_18 rfl ?_
      refine j_iconst (v := 0) X d_Md_served_19 (by decide) ?_
      refine j_iconst (v := 2) X d_Md_served_20 (by decide) ?_
      refine j_callSi0 X [.int w, .int 0, .int 2] [] (c_Md_isIn _ _ _ w 0 2) ok_Md_57 rfl (Nat.le_of_ble_eq_true rfl) ⟨Nat.le_of_ble_eq_true rfl, Nat.le_of_ble_eq_true rfl⟩ ⟨rfl, rfl⟩ rfl ⟨Nat.le_of_ble_eq_true rfl, Nat.le_of_ble_eq_true rfl⟩ d_Md_served_21 (fun r w1 hw => ?_)
      obtain ⟨rfl, hw⟩ := hw
      rcases hw with ⟨h4, rfl⟩ | ⟨h4, rfl⟩
      · have hw3 : ∃ b : Nat, b < 3 ∧ w = nI b := by
          rcases pk_ix w (n := 3) (by decide) with z | z | z
          · exact absurd z h4.1
          · rw [Int32.le_iff_toInt_le, nI_toInt (by decide)] at z
            exact absurd (show (2 : Int32) < w by rw [Int32.lt_iff_toInt_lt, toInt_2]; omega) h4.2
          · exact z
        obtain ⟨b, hb, rfl⟩ := hw3
        refine j_if_ne (tgt := 29) X d_Md_served_24 (by decide) (fun _ => ?_) (fun h => absurd h (by decide))
        refine j_aload_n X d_Md_served_29 rfl ?_
        refine j_get X i_Md 0 rfl rfl 17 (by decide) fl_Md_50 rfl d_Md_served_30 ?_
        refine j_iconst (v := 3) X d_Md_served_33 (by decide) ?_
        refine j_aload_n X d_Md_served_34 rfl ?_
        refine j_get X i_Md 0 rfl rfl 3 (by decide) fl_Md_72 rfl d_Md_served_35 ?_
        refine j_iconst (v := 1) X d_Md_served_38 (by decide) ?_
        refine j_isub X d_Md_served_39 ?_
        refine j_iload_n X d_Md_served_40 rfl ?_
        refine j_isub X d_Md_served_41 ?_
        refine j_bipush (v := 16) X d_Md_served_42 (by decide) ?_
        refine j_irem X d_Md_served_44 (by decide) ?_
        refine j_top (show (S 32 0 - 1 - nI a) - (S 32 0 - 1 - nI a) / 16 * 16 = nI ((n - 1 - a) % 16) by
          rw [hn, show (nI n - 1 : Int32) = nI (n - 1) from pk_sub (b := 1) (by omega), pk_sub (by omega)]
          exact rem16 (by omega)) ?_
        refine j_imul X d_Md_served_45 ?_
        refine j_iload_n X d_Md_served_46 rfl ?_
        refine j_iadd X d_Md_served_47 ?_
        refine j_top (show 3 * nI ((n - 1 - a) % 16) + nI b = nI (3 * ((n - 1 - a) % 16) + b) by show nI 3 * _ + _ = _; rw [pk_mul, nI_add]) ?_
        refine j_ialdN X 14 rfl (show 3 * ((n - 1 - a) % 16) + b < 48 by omega) (by decide) d_Md_served_48 ?_
        exact j_iret X ⟨rfl, Or.inl ⟨n, a, b, hn1, hn, rfl, ha, han, rfl, hb, rowF_at hb⟩⟩ d_Md_served_49
      · refine j_if_ne (tgt := 29) X d_Md_served_24 (by decide) (fun h => absurd (rfl) h) (fun _ => ?_)
        refine j_iconst (v := -1) X d_Md_served_27 (by decide) ?_
        exact j_iret X ⟨rfl, Or.inr ⟨Or.inr ⟨fun e => h4 (by rw [e]; decide), fun e => h4 (by rw [e]; decide), fun e => h4 (by rw [e]; decide)⟩, rfl⟩⟩ d_Md_served_28
  · refine j_if_eq (tgt := 27) X d_Md_served_7 (by decide) (fun _ => ?_) (fun h => absurd (rfl) h)
    refine j_iconst (v := -1) X d_Md_served_27 (by decide) ?_
    exact j_iret X ⟨rfl, Or.inr ⟨Or.inl (fun h => h1 ⟨h.1, fun z => absurd (lt15.mp z) (Int32.not_le.mpr h.2.1)⟩), rfl⟩⟩ d_Md_served_28
end
section
theorem oft_0 {S : St} {t : Nat} : oft S (4 * t + 0) = S 5 t := oft_at (k := 0) (by decide)
theorem wM_60 {G : Gid} {bd : Nat → Nat} {S : St} {dn : Nat → Int32} {i : Nat} {v : Int32} : (wM G bd S dn).set 6 (bd 6, .inl (G.2 0, 32, .inl (upd (oft S) (4 * i + 0) v))) = wM G bd (up S 5 i v) dn := wM_6 (k := 0) (by decide)
theorem oft_1 {S : St} {t : Nat} : oft S (4 * t + 1) = S 6 t := oft_at (k := 1) (by decide)
theorem wM_61 {G : Gid} {bd : Nat → Nat} {S : St} {dn : Nat → Int32} {i : Nat} {v : Int32} : (wM G bd S dn).set 6 (bd 6, .inl (G.2 0, 32, .inl (upd (oft S) (4 * i + 1) v))) = wM G bd (up S 6 i v) dn := wM_6 (k := 1) (by decide)
theorem oft_2 {S : St} {t : Nat} : oft S (4 * t + 2) = S 7 t := oft_at (k := 2) (by decide)
theorem wM_62 {G : Gid} {bd : Nat → Nat} {S : St} {dn : Nat → Int32} {i : Nat} {v : Int32} : (wM G bd S dn).set 6 (bd 6, .inl (G.2 0, 32, .inl (upd (oft S) (4 * i + 2) v))) = wM G bd (up S 7 i v) dn := wM_6 (k := 2) (by decide)
theorem oft_3 {S : St} {t : Nat} : oft S (4 * t + 3) = S 8 t := oft_at (k := 3) (by decide)
theorem wM_63 {G : Gid} {bd : Nat → Nat} {S : St} {dn : Nat → Int32} {i : Nat} {v : Int32} : (wM G bd S dn).set 6 (bd 6, .inl (G.2 0, 32, .inl (upd (oft S) (4 * i + 3) v))) = wM G bd (up S 8 i v) dn := wM_6 (k := 3) (by decide)
theorem wM_140 {G : Gid} {bd : Nat → Nat} {S : St} {dn : Nat → Int32} {i : Nat} {v : Int32} : (wM G bd S dn).set 14 (bd 14, .inl (G.2 0, 48, .inl (upd (rowF S) (3 * i + 0) v))) = wM G bd (up S 20 i v) dn := wM_14 (k := 0) (by decide)
theorem wM_141 {G : Gid} {bd : Nat → Nat} {S : St} {dn : Nat → Int32} {i : Nat} {v : Int32} : (wM G bd S dn).set 14 (bd 14, .inl (G.2 0, 48, .inl (upd (rowF S) (3 * i + 1) v))) = wM G bd (up S 21 i v) dn := wM_14 (k := 1) (by decide)
theorem wM_142 {G : Gid} {bd : Nat → Nat} {S : St} {dn : Nat → Int32} {i : Nat} {v : Int32} : (wM G bd S dn).set 14 (bd 14, .inl (G.2 0, 48, .inl (upd (rowF S) (3 * i + 2) v))) = wM G bd (up S 22 i v) dn := wM_14 (k := 2) (by decide)
theorem bv_sub_and (X M : BitVec 32) : X - (X &&& M) = X &&& ~~~M := by
  have h : (X &&& M) &&& (X &&& ~~~M) = 0#32 := by
    ext i hi
    simp
    intro _ h _
    exact h
  have h2 := BitVec.add_eq_or_of_and_eq_zero _ _ h
  have h3 : (X &&& M) ||| (X &&& ~~~M) = X := by
    ext i hi
    simp
    cases X[i] <;> cases M[i] <;> rfl
  rw [h3] at h2
  have h4 : X - (X &&& M) = (X &&& M) + (X &&& ~~~M) - (X &&& M) := by rw [h2]
  rw [h4, BitVec.add_comm, BitVec.add_sub_cancel]
theorem sub_and (v m : Int32) : v - (v &&& m) = v &&& (m ^^^ (-1)) := by
  apply Int32.toBitVec_inj.mp
  rw [Int32.toBitVec_sub, Int32.toBitVec_and, Int32.toBitVec_and, Int32.toBitVec_xor, show (-1 : Int32).toBitVec = BitVec.allOnes 32 by decide, BitVec.xor_allOnes]
  exact bv_sub_and _ _
theorem one_sh : ∀ l, l < 32 → ((1 : Int32) <<< (nI l &&& 31)).toBitVec = BitVec.twoPow 32 l := by decide +kernel
theorem one_bit {v : Int32} {b : Nat} (hb : b < 32) (h : ¬ v &&& ((1 : Int32) <<< (nI b &&& 31)) = 0) : v &&& ((1 : Int32) <<< (nI b &&& 31)) = (1 : Int32) <<< (nI b &&& 31) := by
  have e : (v &&& ((1 : Int32) <<< (nI b &&& 31))).toBitVec = if v.toBitVec.getLsbD b then BitVec.twoPow 32 b else 0#32 := by
    rw [Int32.toBitVec_and, one_sh b hb, BitVec.and_twoPow]
  apply Int32.toBitVec_inj.mp
  by_cases g : v.toBitVec.getLsbD b = true
  · rw [if_pos g] at e
    rw [e, one_sh b hb]
  · rw [if_neg g] at e
    exact absurd (Int32.toBitVec_inj.mp (by rw [e]; rfl)) h
theorem sub_bit {v w : Int32} {b : Nat} (hb : b < 32) (h : ¬ (v &&& w) &&& ((1 : Int32) <<< (nI b &&& 31)) = 0) : v - ((1 : Int32) <<< (nI b &&& 31)) = v &&& (((1 : Int32) <<< (nI b &&& 31)) ^^^ (-1)) := by
  have h1 : ¬ v &&& ((1 : Int32) <<< (nI b &&& 31)) = 0 := by
    intro e
    apply h
    rw [Int32.and_comm v w, Int32.and_assoc, e, Int32.and_zero]
  have h2 := one_bit hb h1
  rw [← sub_and, h2]
/-- what the twin's look(3) has found with i timers seen -/
def PLi (S : St) (i : Nat) (r : Int32) : Prop := ((∀ t : Nat, t < i → ¬ act S t) ∧ r = 0) ∨ ((∃ t : Nat, t < i ∧ act S t ∧ r = S 1 t) ∧ ∀ t : Nat, t < i → act S t → r ≤ S 1 t)
theorem PLi.A {S : St} {i : Nat} {r : Int32} (hI : Inv S) (h : PLi S i r) (ha : act S i) (hr : r = 0 ∨ S 1 i < r) : PLi S (i + 1) (S 1 i) := by
  right
  refine ⟨⟨i, by omega, ha, rfl⟩, fun t ht hta => ?_⟩
  by_cases e : t = i
  · subst e; rw [Int32.le_iff_toInt_le]; omega
  · rcases h with ⟨h1, -⟩ | ⟨⟨u, hu, hua, rfl⟩, h2⟩
    · exact absurd hta (h1 t (by omega))
    · have h3 := h2 t (by omega) hta
      rcases hr with hr | hr
      · have h4 := hI.one u
        rw [hr] at h4
        exact absurd h4 (by decide)
      · rw [Int32.lt_iff_toInt_lt] at hr
        rw [Int32.le_iff_toInt_le] at *
        omega
theorem PLi.C {S : St} {i : Nat} {r : Int32} (h : PLi S i r) (h0 : ¬ r = 0) (hr : r ≤ S 1 i) : PLi S (i + 1) r := by
  rcases h with ⟨-, h1⟩ | ⟨⟨u, hu, hua, rfl⟩, h2⟩
  · exact absurd h1 h0
  · right
    refine ⟨⟨u, by omega, hua, rfl⟩, fun t ht hta => ?_⟩
    by_cases e : t = i
    · subst e; exact hr
    · exact h2 t (by omega) hta
theorem PLi.B {S : St} {i : Nat} {r : Int32} (h : PLi S i r) (ha : ¬ act S i) : PLi S (i + 1) r := by
  rcases h with ⟨h1, rfl⟩ | ⟨⟨t, ht, hta, rfl⟩, h2⟩
  · left
    refine ⟨fun u hu => ?_, rfl⟩
    by_cases e : u = i
    · subst e; exact ha
    · exact h1 u (by omega)
  · right
    refine ⟨⟨t, by omega, hta, rfl⟩, fun u hu hua => ?_⟩
    by_cases e : u = i
    · subst e; exact absurd hua ha
    · exact h2 u (by omega) hua
set_option maxHeartbeats 4000000 in
set_option maxRecDepth 100000 in
theorem c_Md_event (l : Launch) (G : Gid) (bd : Nat → Nat) (S : St) (dn : Nat → Int32) (t : Nat) (ht : t < 8) : CtI l y_Md_event b_Md_event 2 (some .boolean) rz G [.ref (bd 0), .int (nI t)] (wM G bd S dn) 0 0 (fun r w => w = wM G bd (evS 1 t S) dn ∧ r = evE 1 t S) := by
  refine CtI.of (own := R_Md) (L := [some (.ref (bd 0)), some (.int (nI t))]) (by decide) rfl rfl (Nat.le_of_ble_eq_true rfl) rfl (fun x X => ?_)
  refine j_aload_n X d_Md_event_0 rfl ?_
  refine j_get X i_Md 0 rfl rfl 8 (by decide) fl_Md_23 rfl d_Md_event_1 ?_
  refine j_iload_n X d_Md_event_4 rfl ?_
  refine j_zaldN X 5 rfl ht (by decide) d_Md_event_5 ?_
  refine j_if_ne (tgt := 11) X d_Md_event_6 (by decide) (fun h1 => ?_) (fun h1 => ?_)
  · refine j_aload_n X d_Md_event_11 rfl ?_
    refine j_get X i_Md 0 rfl rfl 5 (by decide) fl_Md_13 rfl d_Md_event_12 ?_
    refine j_iload_n X d_Md_event_15 rfl ?_
    refine j_dup2 X d_Md_event_16 rfl rfl ?_
    refine j_ialdN X 2 rfl ht (by decide) d_Md_event_17 ?_
    refine j_iconst (v := 1) X d_Md_event_18 (by decide) ?_
    refine j_isub X d_Md_event_19 ?_
    refine j_iastN X 2 rfl ht (by decide) d_Md_event_20 ?_
    refine j_eqw wM_2 ?_
    refine j_aload_n X d_Md_event_21 rfl ?_
    refine j_get X i_Md 0 rfl rfl 5 (by decide) fl_Md_13 rfl d_Md_event_22 ?_
    refine j_iload_n X d_Md_event_25 rfl ?_
    refine j_ialdN X 2 rfl ht (by decide) d_Md_event_26 ?_
    refine j_top up_si ?_
    refine j_if_le (tgt := 32) X d_Md_event_27 (by decide) (fun h2 => ?_) (fun h2 => ?_)
    · refine j_aload_n X d_Md_event_32 rfl ?_
      refine j_get X i_Md 0 rfl rfl 5 (by decide) fl_Md_13 rfl d_Md_event_33 ?_
      refine j_iload_n X d_Md_event_36 rfl ?_
      refine j_aload_n X d_Md_event_37 rfl ?_
      refine j_get X i_Md 0 rfl rfl 4 (by decide) fl_Md_7 rfl d_Md_event_38 ?_
      refine j_iload_n X d_Md_event_41 rfl ?_
      refine j_ialdN X 1 rfl ht (by decide) d_Md_event_42 ?_
      refine j_iastN X 2 rfl ht (by decide) d_Md_event_43 ?_
      refine j_eqw wM_2 ?_
      refine j_aload_n X d_Md_event_44 rfl ?_
      refine j_get X i_Md 0 rfl rfl 8 (by decide) fl_Md_23 rfl d_Md_event_45 ?_
      refine j_iload_n X d_Md_event_48 rfl ?_
      refine j_aload_n X d_Md_event_49 rfl ?_
      refine j_get X i_Md 0 rfl rfl 7 (by decide) fl_Md_19 rfl d_Md_event_50 ?_
      refine j_iload_n X d_Md_event_53 rfl ?_
      refine j_zaldN X 4 rfl ht (by decide) d_Md_event_54 ?_
      refine j_if_ne (tgt := 62) X d_Md_event_55 (by decide) (fun h3 => ?_) (fun h3 => ?_)
      · refine j_iconst (v := 0) X d_Md_event_62 (by decide) ?_
        refine j_zastN X 5 rfl ht (by decide) (Or.inl rfl) d_Md_event_63 ?_
        refine j_eqw wM_5 ?_
        refine j_aload_n X d_Md_event_64 rfl ?_
        refine j_get X i_Md 0 rfl rfl 9 (by decide) fl_Md_26 rfl d_Md_event_65 ?_
        refine j_iconst (v := 4) X d_Md_event_68 (by decide) ?_
        refine j_iload_n X d_Md_event_69 rfl ?_
        refine j_imul X d_Md_event_70 ?_
        refine j_top (ix4z t) ?_
        refine j_dup2 X d_Md_event_71 rfl rfl ?_
        refine j_ialdN X 6 rfl (show 4 * t + 0 < 32 by omega) (by decide) d_Md_event_72 ?_
        refine j_top oft_0 ?_
        refine j_iconst (v := 1) X d_Md_event_73 (by decide) ?_
        refine j_iadd X d_Md_event_74 ?_
        refine j_iastN X 6 rfl (show 4 * t + 0 < 32 by omega) (by decide) d_Md_event_75 ?_
        refine j_eqw wM_60 ?_
        refine j_aload_n X d_Md_event_76 rfl ?_
        refine j_get X i_Md 0 rfl rfl 9 (by decide) fl_Md_26 rfl d_Md_event_77 ?_
        refine j_iconst (v := 4) X d_Md_event_80 (by decide) ?_
        refine j_iload_n X d_Md_event_81 rfl ?_
        refine j_imul X d_Md_event_82 ?_
        refine j_iconst (v := 1) X d_Md_event_83 (by decide) ?_
        refine j_iadd X d_Md_event_84 ?_
        refine j_top (ix4 t 1) ?_
        refine j_dup2 X d_Md_event_85 rfl rfl ?_
        refine j_ialdN X 6 rfl (show 4 * t + 1 < 32 by omega) (by decide) d_Md_event_86 ?_
        refine j_top oft_1 ?_
        refine j_aload_n X d_Md_event_87 rfl ?_
        refine j_get X i_Md 0 rfl rfl 2 (by decide) fl_Md_62 rfl d_Md_event_88 ?_
        refine j_iload_n X d_Md_event_91 rfl ?_
        refine j_ishr X d_Md_event_92 ?_
        refine j_iconst (v := 1) X d_Md_event_93 (by decide) ?_
        refine j_iand X d_Md_event_94 ?_
        refine j_iadd X d_Md_event_95 ?_
        refine j_iastN X 6 rfl (show 4 * t + 1 < 32 by omega) (by decide) d_Md_event_96 ?_
        refine j_eqw wM_61 ?_
        refine j_aload_n X d_Md_event_97 rfl ?_
        refine j_dup X d_Md_event_98 rfl ?_
        refine j_get X i_Md 0 rfl rfl 2 (by decide) fl_Md_62 rfl d_Md_event_99 ?_
        refine j_iconst (v := 1) X d_Md_event_102 (by decide) ?_
        refine j_iload_n X d_Md_event_103 rfl ?_
        refine j_ishl X d_Md_event_104 ?_
        refine j_ior X d_Md_event_105 ?_
        refine j_put X i_Md t_Md t_Md_ok n_Md 0 rfl rfl 2 (by decide) fl_Md_62 rfl rfl rfl rfl (Nat.le_of_ble_eq_true rfl) d_Md_event_106 ?_
        refine j_eqw wM_sta ?_
        refine j_iconst (v := 1) X d_Md_event_109 (by decide) ?_
        have hE : evE 1 t S = 1 := by unfold evE; rw [if_neg h1, if_neg (fun h => absurd h2 (Int32.not_le.mpr h))]
        refine j_zret X (Or.inr rfl) ⟨?_, hE.symm⟩ d_Md_event_110
        unfold evS
        rw [hE, if_neg (by decide)]
        unfold evC
        rw [if_neg h1, if_neg (fun h => absurd h2 (Int32.not_le.mpr h)), if_neg (c := S 4 t = 0) h3]
        rfl
      · refine j_iconst (v := 1) X d_Md_event_58 (by decide) ?_
        refine j_goto (tgt := 63) X d_Md_event_59 (by decide) ?_
        refine j_zastN X 5 rfl ht (by decide) (Or.inr rfl) d_Md_event_63 ?_
        refine j_eqw wM_5 ?_
        refine j_aload_n X d_Md_event_64 rfl ?_
        refine j_get X i_Md 0 rfl rfl 9 (by decide) fl_Md_26 rfl d_Md_event_65 ?_
        refine j_iconst (v := 4) X d_Md_event_68 (by decide) ?_
        refine j_iload_n X d_Md_event_69 rfl ?_
        refine j_imul X d_Md_event_70 ?_
        refine j_top (ix4z t) ?_
        refine j_dup2 X d_Md_event_71 rfl rfl ?_
        refine j_ialdN X 6 rfl (show 4 * t + 0 < 32 by omega) (by decide) d_Md_event_72 ?_
        refine j_top oft_0 ?_
        refine j_iconst (v := 1) X d_Md_event_73 (by decide) ?_
        refine j_iadd X d_Md_event_74 ?_
        refine j_iastN X 6 rfl (show 4 * t + 0 < 32 by omega) (by decide) d_Md_event_75 ?_
        refine j_eqw wM_60 ?_
        refine j_aload_n X d_Md_event_76 rfl ?_
        refine j_get X i_Md 0 rfl rfl 9 (by decide) fl_Md_26 rfl d_Md_event_77 ?_
        refine j_iconst (v := 4) X d_Md_event_80 (by decide) ?_
        refine j_iload_n X d_Md_event_81 rfl ?_
        refine j_imul X d_Md_event_82 ?_
        refine j_iconst (v := 1) X d_Md_event_83 (by decide) ?_
        refine j_iadd X d_Md_event_84 ?_
        refine j_top (ix4 t 1) ?_
        refine j_dup2 X d_Md_event_85 rfl rfl ?_
        refine j_ialdN X 6 rfl (show 4 * t + 1 < 32 by omega) (by decide) d_Md_event_86 ?_
        refine j_top oft_1 ?_
        refine j_aload_n X d_Md_event_87 rfl ?_
        refine j_get X i_Md 0 rfl rfl 2 (by decide) fl_Md_62 rfl d_Md_event_88 ?_
        refine j_iload_n X d_Md_event_91 rfl ?_
        refine j_ishr X d_Md_event_92 ?_
        refine j_iconst (v := 1) X d_Md_event_93 (by decide) ?_
        refine j_iand X d_Md_event_94 ?_
        refine j_iadd X d_Md_event_95 ?_
        refine j_iastN X 6 rfl (show 4 * t + 1 < 32 by omega) (by decide) d_Md_event_96 ?_
        refine j_eqw wM_61 ?_
        refine j_aload_n X d_Md_event_97 rfl ?_
        refine j_dup X d_Md_event_98 rfl ?_
        refine j_get X i_Md 0 rfl rfl 2 (by decide) fl_Md_62 rfl d_Md_event_99 ?_
        refine j_iconst (v := 1) X d_Md_event_102 (by decide) ?_
        refine j_iload_n X d_Md_event_103 rfl ?_
        refine j_ishl X d_Md_event_104 ?_
        refine j_ior X d_Md_event_105 ?_
        refine j_put X i_Md t_Md t_Md_ok n_Md 0 rfl rfl 2 (by decide) fl_Md_62 rfl rfl rfl rfl (Nat.le_of_ble_eq_true rfl) d_Md_event_106 ?_
        refine j_eqw wM_sta ?_
        refine j_iconst (v := 1) X d_Md_event_109 (by decide) ?_
        have hE : evE 1 t S = 1 := by unfold evE; rw [if_neg h1, if_neg (fun h => absurd h2 (Int32.not_le.mpr h))]
        refine j_zret X (Or.inr rfl) ⟨?_, hE.symm⟩ d_Md_event_110
        unfold evS
        rw [hE, if_neg (by decide)]
        unfold evC
        rw [if_neg h1, if_neg (fun h => absurd h2 (Int32.not_le.mpr h)), if_pos (c := S 4 t = 0) h3]
        rfl
    · refine j_iconst (v := 0) X d_Md_event_30 (by decide) ?_
      have hE : evE 1 t S = 0 := by unfold evE; rw [if_neg h1, if_pos (Int32.not_le.mp h2)]
      refine j_zret X (Or.inl rfl) ⟨?_, hE.symm⟩ d_Md_event_31
      unfold evS
      rw [hE, if_pos rfl]
      unfold evC
      rw [if_neg h1, if_pos (Int32.not_le.mp h2)]
  · refine j_iconst (v := 0) X d_Md_event_9 (by decide) ?_
    exact j_zret X (Or.inl rfl) ⟨by rw [evS_0 h1], (evE_0 h1).symm⟩ d_Md_event_10
set_option maxHeartbeats 4000000 in
set_option maxRecDepth 100000 in
theorem lp_srv {x : Ctx} {G : Gid} {bd : Nat → Nat} {Q : State → Prop} (X : Fix x G b_Md_serve 4 R_Md none r1) (S : St) (dn : Nat → Int32) (g : Nat) (hg : g < 4) (hlb : lb (S 30 0 &&& S 10 g) < 8) : ∀ (n b : Nat), b + n = 8 → lbF n b (S 30 0 &&& S 10 g) = lb (S 30 0 &&& S 10 g) → (∀ b : Nat, b < 8 → b = lb (S 30 0 &&& S 10 g) → ¬ (S 30 0 &&& S 10 g) &&& ((1 : Int32) <<< (nI b &&& 31)) = 0 → J x G 0 0 Q (wM G bd S dn) 45 [some (.ref (bd 0)), some (.int (nI g)), some (.int (nI b)), none] []) → J x G 0 0 Q (wM G bd S dn) 21 [some (.ref (bd 0)), some (.int (nI g)), some (.int (nI b)), none] [] := by
  intro n
  induction n with
  | zero =>
    intro b hb hl kk
    exact absurd (show lbF 0 b (S 30 0 &&& S 10 g) = b from rfl) (by rw [hl]; omega)
  | succ n ih =>
    intro b hb hl kk
    refine j_aload_n X d_Md_serve_21 rfl ?_
    refine j_get X i_Md 0 rfl rfl 2 (by decide) fl_Md_62 rfl d_Md_serve_22 ?_
    refine j_aload_n X d_Md_serve_25 rfl ?_
    refine j_get X i_Md 0 rfl rfl 10 (by decide) fl_Md_29 rfl d_Md_serve_26 ?_
    refine j_iload_n X d_Md_serve_29 rfl ?_
    refine j_ialdN X 7 rfl hg (by decide) d_Md_serve_30 ?_
    refine j_iand X d_Md_serve_31 ?_
    refine j_iconst (v := 1) X d_Md_serve_32 (by decide) ?_
    refine j_iload_n X d_Md_serve_33 rfl ?_
    refine j_ishl X d_Md_serve_34 ?_
    refine j_iand X d_Md_serve_35 ?_
    refine j_if_ne (tgt := 45) X d_Md_serve_36 (by decide) (fun h => ?_) (fun h => ?_)
    · have hbl : b = lb (S 30 0 &&& S 10 g) := by
        rw [← hl]
        show b = if _ then _ else b
        rw [if_neg h]
      exact kk b (by omega) hbl h
    · refine j_iinc (v := nI (b + 1)) X d_Md_serve_39 rfl (inc1 _) ?_
      refine j_goto (tgt := 21) X d_Md_serve_42 (by decide) ?_
      refine ih (b + 1) (by omega) ?_ kk
      rw [← hl]
      show _ = if _ then _ else b
      rw [if_pos h]
set_option maxHeartbeats 4000000 in
set_option maxRecDepth 100000 in
theorem c_Md_serve (l : Launch) (G : Gid) (bd : Nat → Nat) (S : St) (dn : Nat → Int32) (g : Nat) (hg : g < 4) (hm : ∃ m : Nat, m < 256 ∧ S 10 g = nI m) (n : Nat) (hn : S 32 0 = nI n) (hn1 : n < 2 ^ 31) : CtV l y_Md_serve b_Md_serve 4 r1 G [.ref (bd 0), .int (nI g)] (wM G bd S dn) 0 0 (fun w => w = wM G bd (svS g S) dn) := by
  refine CtV.of (own := R_Md) (L := [some (.ref (bd 0)), some (.int (nI g)), none, none]) (by decide) rfl rfl (Nat.le_of_ble_eq_true rfl) rfl (fun x X hnm => ?_)
  refine j_aload_n X d_Md_serve_0 rfl ?_
  refine j_iload_n X d_Md_serve_1 rfl ?_
  refine j_callVi0 X [.int (nI g)] [] (c_Md_asks _ _ _ _ _ g hg) ok_Md_65 (q0 := 0) rfl rfl rfl (Nat.le_of_ble_eq_true rfl) ⟨Nat.le_of_ble_eq_true rfl, Nat.le_of_ble_eq_true rfl⟩ ⟨rfl, rfl⟩ rfl ⟨Nat.le_of_ble_eq_true rfl, Nat.le_of_ble_eq_true rfl⟩ d_Md_serve_2 (fun r w1 hw => ?_)
  obtain ⟨rfl, rfl⟩ := hw
  by_cases h1 : S 30 0 &&& S 10 g = 0
  · refine j_if_ne (tgt := 19) X d_Md_serve_5 (by decide) (fun h => absurd (if_pos h1) h) (fun _ => ?_)
    refine j_aload_n X d_Md_serve_8 rfl ?_
    refine j_get X i_Md 0 rfl rfl 15 (by decide) fl_Md_44 rfl d_Md_serve_9 ?_
    refine j_iload_n X d_Md_serve_12 rfl ?_
    refine j_dup2 X d_Md_serve_13 rfl rfl ?_
    refine j_ialdN X 12 rfl hg (by decide) d_Md_serve_14 ?_
    refine j_iconst (v := 1) X d_Md_serve_15 (by decide) ?_
    refine j_iadd X d_Md_serve_16 ?_
    refine j_iastN X 12 rfl hg (by decide) d_Md_serve_17 ?_
    refine j_eqw wM_12 ?_
    exact j_vret X (by unfold svS; rw [if_pos h1]) d_Md_serve_18
  · refine j_if_ne (tgt := 19) X d_Md_serve_5 (by decide) (fun _ => ?_) (fun h => absurd h (by rw [if_neg h1]; decide))
    refine j_iconst (v := 0) X d_Md_serve_19 (by decide) ?_
    refine j_istore_n X d_Md_serve_20 (Nat.le_of_ble_eq_true rfl) ?_
    obtain ⟨m, hm, hm1⟩ := hm
    obtain ⟨c, hc, hA⟩ := and_nI (S 30 0) hm
    rw [← hm1] at hA
    have hc0 : c ≠ 0 := fun e => h1 (by rw [hA, e]; rfl)
    have hb : lb (S 30 0 &&& S 10 g) < 8 := by rw [hA]; exact lb_lt hc hc0
    refine lp_srv X S dn g hg hb 8 0 rfl rfl (fun b hb8 hbe hbit => ?_)
    refine j_aload_n X d_Md_serve_45 rfl ?_
    refine j_dup X d_Md_serve_46 rfl ?_
    refine j_get X i_Md 0 rfl rfl 2 (by decide) fl_Md_62 rfl d_Md_serve_47 ?_
    refine j_iconst (v := 1) X d_Md_serve_50 (by decide) ?_
    refine j_iload_n X d_Md_serve_51 rfl ?_
    refine j_ishl X d_Md_serve_52 ?_
    refine j_isub X d_Md_serve_53 ?_
    refine j_top (sub_bit (by omega) hbit) ?_
    refine j_put X i_Md t_Md t_Md_ok n_Md 0 rfl rfl 2 (by decide) fl_Md_62 rfl rfl rfl rfl (Nat.le_of_ble_eq_true rfl) d_Md_serve_54 ?_
    refine j_eqw wM_sta ?_
    refine j_aload_n X d_Md_serve_57 rfl ?_
    refine j_get X i_Md 0 rfl rfl 9 (by decide) fl_Md_26 rfl d_Md_serve_58 ?_
    refine j_iconst (v := 4) X d_Md_serve_61 (by decide) ?_
    refine j_iload_n X d_Md_serve_62 rfl ?_
    refine j_imul X d_Md_serve_63 ?_
    refine j_iconst (v := 2) X d_Md_serve_64 (by decide) ?_
    refine j_iadd X d_Md_serve_65 ?_
    refine j_top (ix4 b 2) ?_
    refine j_dup2 X d_Md_serve_66 rfl rfl ?_
    refine j_ialdN X 6 rfl (show 4 * b + 2 < 32 by omega) (by decide) d_Md_serve_67 ?_
    refine j_top oft_2 ?_
    refine j_iconst (v := 1) X d_Md_serve_68 (by decide) ?_
    refine j_iadd X d_Md_serve_69 ?_
    refine j_iastN X 6 rfl (show 4 * b + 2 < 32 by omega) (by decide) d_Md_serve_70 ?_
    refine j_eqw wM_62 ?_
    refine j_aload_n X d_Md_serve_71 rfl ?_
    refine j_get X i_Md 0 rfl rfl 14 (by decide) fl_Md_41 rfl d_Md_serve_72 ?_
    refine j_iload_n X d_Md_serve_75 rfl ?_
    refine j_dup2 X d_Md_serve_76 rfl rfl ?_
    refine j_ialdN X 11 rfl hg (by decide) d_Md_serve_77 ?_
    refine j_iconst (v := 1) X d_Md_serve_78 (by decide) ?_
    refine j_iadd X d_Md_serve_79 ?_
    refine j_iastN X 11 rfl hg (by decide) d_Md_serve_80 ?_
    refine j_eqw wM_11 ?_
    refine j_aload_n X d_Md_serve_81 rfl ?_
    refine j_get X i_Md 0 rfl rfl 16 (by decide) fl_Md_47 rfl d_Md_serve_82 ?_
    refine j_iload_n X d_Md_serve_85 rfl ?_
    refine j_aload_n X d_Md_serve_86 rfl ?_
    refine j_get X i_Md 0 rfl rfl 1 (by decide) fl_Md_69 rfl d_Md_serve_87 ?_
    refine j_iastN X 13 rfl hg (by decide) d_Md_serve_90 ?_
    refine j_eqw wM_13 ?_
    refine j_iconst (v := 3) X d_Md_serve_91 (by decide) ?_
    refine j_aload_n X d_Md_serve_92 rfl ?_
    refine j_get X i_Md 0 rfl rfl 3 (by decide) fl_Md_72 rfl d_Md_serve_93 ?_
    refine j_bipush (v := 16) X d_Md_serve_96 (by decide) ?_
    refine j_irem X d_Md_serve_98 (by decide) ?_
    refine j_top (show S 32 0 - S 32 0 / 16 * 16 = nI (n % 16) by rw [hn]; exact rem16 hn1) ?_
    refine j_imul X d_Md_serve_99 ?_
    refine j_top (show 3 * nI (n % 16) = nI (3 * (n % 16) + 0) by show nI 3 * _ = _; rw [pk_mul]; rfl) ?_
    refine j_istore_n X d_Md_serve_100 (Nat.le_of_ble_eq_true rfl) ?_
    refine j_aload_n X d_Md_serve_101 rfl ?_
    refine j_get X i_Md 0 rfl rfl 17 (by decide) fl_Md_50 rfl d_Md_serve_102 ?_
    refine j_iload_n X d_Md_serve_105 rfl ?_
    refine j_iload_n X d_Md_serve_106 rfl ?_
    refine j_iastN X 14 rfl (show 3 * (n % 16) + 0 < 48 by omega) (by decide) d_Md_serve_107 ?_
    refine j_eqw wM_140 ?_
    refine j_aload_n X d_Md_serve_108 rfl ?_
    refine j_get X i_Md 0 rfl rfl 17 (by decide) fl_Md_50 rfl d_Md_serve_109 ?_
    refine j_iload_n X d_Md_serve_112 rfl ?_
    refine j_iconst (v := 1) X d_Md_serve_113 (by decide) ?_
    refine j_iadd X d_Md_serve_114 ?_
    refine j_top (nI_1 (3 * (n % 16))) ?_
    refine j_iload_n X d_Md_serve_115 rfl ?_
    refine j_iastN X 14 rfl (show 3 * (n % 16) + 1 < 48 by omega) (by decide) d_Md_serve_116 ?_
    refine j_eqw wM_141 ?_
    refine j_aload_n X d_Md_serve_117 rfl ?_
    refine j_get X i_Md 0 rfl rfl 17 (by decide) fl_Md_50 rfl d_Md_serve_118 ?_
    refine j_iload_n X d_Md_serve_121 rfl ?_
    refine j_iconst (v := 2) X d_Md_serve_122 (by decide) ?_
    refine j_iadd X d_Md_serve_123 ?_
    refine j_top (nI_add (3 * (n % 16)) 2) ?_
    refine j_aload_n X d_Md_serve_124 rfl ?_
    refine j_get X i_Md 0 rfl rfl 1 (by decide) fl_Md_69 rfl d_Md_serve_125 ?_
    refine j_iastN X 14 rfl (show 3 * (n % 16) + 2 < 48 by omega) (by decide) d_Md_serve_128 ?_
    refine j_eqw wM_142 ?_
    refine j_aload_n X d_Md_serve_129 rfl ?_
    refine j_dup X d_Md_serve_130 rfl ?_
    refine j_get X i_Md 0 rfl rfl 3 (by decide) fl_Md_72 rfl d_Md_serve_131 ?_
    refine j_iconst (v := 1) X d_Md_serve_134 (by decide) ?_
    refine j_iadd X d_Md_serve_135 ?_
    refine j_put X i_Md t_Md t_Md_ok n_Md 0 rfl rfl 3 (by decide) fl_Md_72 rfl rfl rfl rfl (Nat.le_of_ble_eq_true rfl) d_Md_serve_136 ?_
    refine j_eqw wM_srv ?_
    refine j_vret X ?_ d_Md_serve_139
    unfold svS
    rw [if_neg h1, ← hbe]
    unfold svB bk
    rw [hn, nI_clamp hn1]
    rfl
end
section
set_option maxHeartbeats 4000000 in
set_option maxRecDepth 100000 in
theorem lp_tick1 {x : Ctx} {G : Gid} {bd : Nat → Nat} {Q : State → Prop} (X : Fix x G b_Md_tick 3 R_Md none r2) (dn : Nat → Int32) : ∀ (n t : Nat) (e : Int32) (S : St), t + n = 8 → J x G 0 0 Q (wM G bd (tm 1 n t e S) dn) 53 [some (.ref (bd 0)), none, none] [] → J x G 0 0 Q (wM G bd S dn) 14 [some (.ref (bd 0)), some (.int e), some (.int (nI t))] [] := by
  intro n
  induction n with
  | zero =>
    intro t e S ht kk
    have e8 : t = 8 := by omega
    subst e8
    refine j_iload_n X d_Md_tick_14 rfl ?_
    refine j_bipush (v := 8) X d_Md_tick_15 (by decide) ?_
    refine j_icmp_ge (tgt := 53) X d_Md_tick_17 (by decide) (fun _ => ?_) (fun h => absurd (by decide) h)
    refine j_drop 1 ?_
    refine j_drop 2 ?_
    exact kk
  | succ n ih =>
    intro t e S htn kk
    have ht : t < 8 := by omega
    refine j_iload_n X d_Md_tick_14 rfl ?_
    refine j_bipush (v := 8) X d_Md_tick_15 (by decide) ?_
    refine j_icmp_ge (tgt := 53) X d_Md_tick_17 (by decide) (fun h => absurd h ((okT_of ht).2)) (fun _ => ?_)
    refine j_aload_n X d_Md_tick_20 rfl ?_
    refine j_get X i_Md 0 rfl rfl 6 (by decide) fl_Md_16 rfl d_Md_tick_21 ?_
    refine j_iload_n X d_Md_tick_24 rfl ?_
    refine j_ialdN X 3 rfl ht (by decide) d_Md_tick_25 ?_
    refine j_if_eq (tgt := 33) X d_Md_tick_26 (by decide) (fun h1 => ?_) (fun h1 => ?_)
    · refine j_aload_n X d_Md_tick_33 rfl ?_
      refine j_iload_n X d_Md_tick_34 rfl ?_
      refine j_callVi0 X [.int (nI t)] [] (c_Md_event _ _ _ _ _ t ht) ok_Md_75 (q0 := 0) rfl rfl rfl (Nat.le_of_ble_eq_true rfl) ⟨Nat.le_of_ble_eq_true rfl, Nat.le_of_ble_eq_true rfl⟩ ⟨rfl, rfl⟩ rfl ⟨Nat.le_of_ble_eq_true rfl, Nat.le_of_ble_eq_true rfl⟩ d_Md_tick_35 (fun r w1 hw => ?_)
      obtain ⟨rfl, rfl⟩ := hw
      refine j_if_eq (tgt := 45) X d_Md_tick_38 (by decide) (fun h3 => ?_) (fun h3 => ?_)
      · refine j_iconst (v := 0) X d_Md_tick_45 (by decide) ?_
        refine j_istore_n X d_Md_tick_46 (Nat.le_of_ble_eq_true rfl) ?_
        refine j_iinc (v := nI (t + 1)) X d_Md_tick_47 rfl (inc1 _) ?_
        refine j_goto (tgt := 14) X d_Md_tick_50 (by decide) ?_
        refine ih (t + 1) 0 _ (by omega) ?_
        rw [tm_A h1, h3] at kk
        exact kk
      · refine j_iconst (v := 1) X d_Md_tick_41 (by decide) ?_
        refine j_goto (tgt := 46) X d_Md_tick_42 (by decide) ?_
        refine j_istore_n X d_Md_tick_46 (Nat.le_of_ble_eq_true rfl) ?_
        refine j_iinc (v := nI (t + 1)) X d_Md_tick_47 rfl (inc1 _) ?_
        refine j_goto (tgt := 14) X d_Md_tick_50 (by decide) ?_
        refine ih (t + 1) 1 _ (by omega) ?_
        rw [tm_A h1, (evE_z 1 t S).resolve_left h3] at kk
        exact kk
    · refine j_iload_n X d_Md_tick_29 rfl ?_
      refine j_if_eq (tgt := 45) X d_Md_tick_30 (by decide) (fun h2 => ?_) (fun h2 => ?_)
      · refine j_iconst (v := 0) X d_Md_tick_45 (by decide) ?_
        refine j_istore_n X d_Md_tick_46 (Nat.le_of_ble_eq_true rfl) ?_
        refine j_iinc (v := nI (t + 1)) X d_Md_tick_47 rfl (inc1 _) ?_
        refine j_goto (tgt := 14) X d_Md_tick_50 (by decide) ?_
        refine ih (t + 1) 0 S (by omega) ?_
        rw [tm_B h1 h2] at kk
        exact kk
      · refine j_aload_n X d_Md_tick_33 rfl ?_
        refine j_iload_n X d_Md_tick_34 rfl ?_
        refine j_callVi0 X [.int (nI t)] [] (c_Md_event _ _ _ _ _ t ht) ok_Md_75 (q0 := 0) rfl rfl rfl (Nat.le_of_ble_eq_true rfl) ⟨Nat.le_of_ble_eq_true rfl, Nat.le_of_ble_eq_true rfl⟩ ⟨rfl, rfl⟩ rfl ⟨Nat.le_of_ble_eq_true rfl, Nat.le_of_ble_eq_true rfl⟩ d_Md_tick_35 (fun r w1 hw => ?_)
        obtain ⟨rfl, rfl⟩ := hw
        refine j_if_eq (tgt := 45) X d_Md_tick_38 (by decide) (fun h3 => ?_) (fun h3 => ?_)
        · refine j_iconst (v := 0) X d_Md_tick_45 (by decide) ?_
          refine j_istore_n X d_Md_tick_46 (Nat.le_of_ble_eq_true rfl) ?_
          refine j_iinc (v := nI (t + 1)) X d_Md_tick_47 rfl (inc1 _) ?_
          refine j_goto (tgt := 14) X d_Md_tick_50 (by decide) ?_
          refine ih (t + 1) 0 _ (by omega) ?_
          rw [tm_C h1 h2, h3] at kk
          exact kk
        · refine j_iconst (v := 1) X d_Md_tick_41 (by decide) ?_
          refine j_goto (tgt := 46) X d_Md_tick_42 (by decide) ?_
          refine j_istore_n X d_Md_tick_46 (Nat.le_of_ble_eq_true rfl) ?_
          refine j_iinc (v := nI (t + 1)) X d_Md_tick_47 rfl (inc1 _) ?_
          refine j_goto (tgt := 14) X d_Md_tick_50 (by decide) ?_
          refine ih (t + 1) 1 _ (by omega) ?_
          rw [tm_C h1 h2, (evE_z 1 t S).resolve_left h3] at kk
          exact kk
set_option maxHeartbeats 4000000 in
set_option maxRecDepth 100000 in
theorem lp_tick2 {x : Ctx} {G : Gid} {bd : Nat → Nat} {Q : State → Prop} (X : Fix x G b_Md_tick 3 R_Md none r2) : ∀ (n g : Nat) (S : St) (dn : Nat → Int32) (B : Nat), g + n = 4 → (∀ i, ∃ m : Nat, m < 256 ∧ S 10 i = nI m) → Bnd B S → B + n < 2 ^ 31 → (∀ dn1, J x G 0 0 Q (wM G bd (gt 1 n g S) dn1) 120 [some (.ref (bd 0)), none, none] []) → J x G 0 0 Q (wM G bd S dn) 55 [some (.ref (bd 0)), none, some (.int (nI g))] [] := by
  intro n
  induction n with
  | zero =>
    intro g S dn B hg hm hB hB2 kk
    have e4 : g = 4 := by omega
    subst e4
    refine j_iload_n X d_Md_tick_55 rfl ?_
    refine j_iconst (v := 4) X d_Md_tick_56 (by decide) ?_
    refine j_icmp_ge (tgt := 120) X d_Md_tick_57 (by decide) (fun _ => ?_) (fun h => absurd (by decide) h)
    refine j_drop 2 ?_
    exact kk dn
  | succ n ih =>
    intro g S dn B hgn hm hB hB2 kk
    have hg : g < 4 := by omega
    have next : ∀ (S1 : St) (dn1 : Nat → Int32), S1 = gtS 1 g S → J x G 0 0 Q (wM G bd S1 dn1) 55 [some (.ref (bd 0)), none, some (.int (nI (g + 1)))] [] := by
      intro S1 dn1 e1
      subst e1
      exact ih (g + 1) _ dn1 (B + 1) (by omega) (fun i => by rw [gtS_f (by decide)]; exact hm i) (Bnd.gtS hB) (by omega) kk
    refine j_iload_n X d_Md_tick_55 rfl ?_
    refine j_iconst (v := 4) X d_Md_tick_56 (by decide) ?_
    refine j_icmp_ge (tgt := 120) X d_Md_tick_57 (by decide) (fun h => absurd h ((okG_of hg).2)) (fun _ => ?_)
    refine j_aload_n X d_Md_tick_60 rfl ?_
    refine j_get X i_Md 0 rfl rfl 13 (by decide) fl_Md_38 rfl d_Md_tick_61 ?_
    refine j_iload_n X d_Md_tick_64 rfl ?_
    refine j_aload_n X d_Md_tick_65 rfl ?_
    refine j_get X i_Md 0 rfl rfl 12 (by decide) fl_Md_35 rfl d_Md_tick_66 ?_
    refine j_iload_n X d_Md_tick_69 rfl ?_
    refine j_ialdN X 9 rfl hg (by decide) d_Md_tick_70 ?_
    refine j_iconst (v := 1) X d_Md_tick_71 (by decide) ?_
    refine j_icmp_ne (tgt := 79) X d_Md_tick_72 (by decide) (fun h1 => ?_) (fun h1 => ?_)
    · refine j_iconst (v := 0) X d_Md_tick_79 (by decide) ?_
      refine j_zastN X 10 rfl hg (by decide) (Or.inl rfl) d_Md_tick_80 ?_
      refine j_eqw wM_10 ?_
      refine j_aload_n X d_Md_tick_81 rfl ?_
      refine j_get X i_Md 0 rfl rfl 12 (by decide) fl_Md_35 rfl d_Md_tick_82 ?_
      refine j_iload_n X d_Md_tick_85 rfl ?_
      refine j_ialdN X 9 rfl hg (by decide) d_Md_tick_86 ?_
      refine j_if_le (tgt := 100) X d_Md_tick_87 (by decide) (fun h2 => ?_) (fun h2 => ?_)
      · refine j_aload_n X d_Md_tick_100 rfl ?_
        refine j_get X i_Md 0 rfl rfl 13 (by decide) fl_Md_38 rfl d_Md_tick_101 ?_
        refine j_iload_n X d_Md_tick_104 rfl ?_
        refine j_zaldN X 10 rfl hg (by decide) d_Md_tick_105 ?_
        refine j_top pk_us ?_
        refine j_if_eq (tgt := 114) X d_Md_tick_106 (by decide) (fun _ => ?_) (fun h => absurd (rfl) h)
        refine j_iinc (v := nI (g + 1)) X d_Md_tick_114 rfl (inc1 _) ?_
        refine j_goto (tgt := 55) X d_Md_tick_117 (by decide) ?_
        exact next _ _ (by unfold gtS; rw [if_neg (fun h => absurd h2 (Int32.not_le.mpr h))])
      · refine j_aload_n X d_Md_tick_90 rfl ?_
        refine j_get X i_Md 0 rfl rfl 12 (by decide) fl_Md_35 rfl d_Md_tick_91 ?_
        refine j_iload_n X d_Md_tick_94 rfl ?_
        refine j_dup2 X d_Md_tick_95 rfl rfl ?_
        refine j_ialdN X 9 rfl hg (by decide) d_Md_tick_96 ?_
        refine j_iconst (v := 1) X d_Md_tick_97 (by decide) ?_
        refine j_isub X d_Md_tick_98 ?_
        refine j_iastN X 9 rfl hg (by decide) d_Md_tick_99 ?_
        refine j_eqw wM_9 ?_
        refine j_aload_n X d_Md_tick_100 rfl ?_
        refine j_get X i_Md 0 rfl rfl 13 (by decide) fl_Md_38 rfl d_Md_tick_101 ?_
        refine j_iload_n X d_Md_tick_104 rfl ?_
        refine j_zaldN X 10 rfl hg (by decide) d_Md_tick_105 ?_
        refine j_top pk_us ?_
        refine j_if_eq (tgt := 114) X d_Md_tick_106 (by decide) (fun _ => ?_) (fun h => absurd (rfl) h)
        refine j_iinc (v := nI (g + 1)) X d_Md_tick_114 rfl (inc1 _) ?_
        refine j_goto (tgt := 55) X d_Md_tick_117 (by decide) ?_
        exact next _ _ (by unfold gtS; rw [if_pos (Int32.not_le.mp h2), if_neg (sub_ne h1)])
    · have hp : 0 < S 12 g := by rw [h1]; decide
      refine j_iconst (v := 1) X d_Md_tick_75 (by decide) ?_
      refine j_goto (tgt := 80) X d_Md_tick_76 (by decide) ?_
      refine j_zastN X 10 rfl hg (by decide) (Or.inr rfl) d_Md_tick_80 ?_
      refine j_eqw wM_10 ?_
      refine j_aload_n X d_Md_tick_81 rfl ?_
      refine j_get X i_Md 0 rfl rfl 12 (by decide) fl_Md_35 rfl d_Md_tick_82 ?_
      refine j_iload_n X d_Md_tick_85 rfl ?_
      refine j_ialdN X 9 rfl hg (by decide) d_Md_tick_86 ?_
      refine j_if_le (tgt := 100) X d_Md_tick_87 (by decide) (fun h => absurd h (Int32.not_le.mpr hp)) (fun _ => ?_)
      refine j_aload_n X d_Md_tick_90 rfl ?_
      refine j_get X i_Md 0 rfl rfl 12 (by decide) fl_Md_35 rfl d_Md_tick_91 ?_
      refine j_iload_n X d_Md_tick_94 rfl ?_
      refine j_dup2 X d_Md_tick_95 rfl rfl ?_
      refine j_ialdN X 9 rfl hg (by decide) d_Md_tick_96 ?_
      refine j_iconst (v := 1) X d_Md_tick_97 (by decide) ?_
      refine j_isub X d_Md_tick_98 ?_
      refine j_iastN X 9 rfl hg (by decide) d_Md_tick_99 ?_
      refine j_eqw wM_9 ?_
      refine j_aload_n X d_Md_tick_100 rfl ?_
      refine j_get X i_Md 0 rfl rfl 13 (by decide) fl_Md_38 rfl d_Md_tick_101 ?_
      refine j_iload_n X d_Md_tick_104 rfl ?_
      refine j_zaldN X 10 rfl hg (by decide) d_Md_tick_105 ?_
      refine j_top pk_us ?_
      refine j_if_eq (tgt := 114) X d_Md_tick_106 (by decide) (fun h => absurd h (by decide)) (fun _ => ?_)
      obtain ⟨c, hc, hc1⟩ := id hB
      refine j_aload_n X d_Md_tick_109 rfl ?_
      refine j_iload_n X d_Md_tick_110 rfl ?_
      refine j_callVv0 X [.int (nI g)] [] (c_Md_serve _ _ _ (up S 12 g (S 12 g - 1)) _ g hg (hm g) c hc1 (by omega)) ok_Md_78 (q0 := 0) rfl rfl rfl (Nat.le_of_ble_eq_true rfl) ⟨Nat.le_of_ble_eq_true rfl, Nat.le_of_ble_eq_true rfl⟩ ⟨rfl, rfl⟩ rfl ⟨Nat.le_of_ble_eq_true rfl, Nat.le_of_ble_eq_true rfl⟩ d_Md_tick_111 (fun w1 hw => ?_)
      subst hw
      refine j_iinc (v := nI (g + 1)) X d_Md_tick_114 rfl (inc1 _) ?_
      refine j_goto (tgt := 55) X d_Md_tick_117 (by decide) ?_
      exact next _ _ (by unfold gtS; rw [if_pos hp, if_pos (by rw [h1]; rfl)])
set_option maxHeartbeats 4000000 in
set_option maxRecDepth 100000 in
theorem lp_tick3 {x : Ctx} {G : Gid} {bd : Nat → Nat} {Q : State → Prop} (X : Fix x G b_Md_tick 3 R_Md none r2) (dn : Nat → Int32) : ∀ (n g : Nat) (S : St), g + n = 4 → J x G 0 0 Q (wM G bd (wt n g S) dn) 162 [some (.ref (bd 0)), none, none] [] → J x G 0 0 Q (wM G bd S dn) 122 [some (.ref (bd 0)), none, some (.int (nI g))] [] := by
  intro n
  induction n with
  | zero =>
    intro g S hg kk
    have e4 : g = 4 := by omega
    subst e4
    refine j_iload_n X d_Md_tick_122 rfl ?_
    refine j_iconst (v := 4) X d_Md_tick_123 (by decide) ?_
    refine j_icmp_ge (tgt := 162) X d_Md_tick_124 (by decide) (fun _ => ?_) (fun h => absurd (by decide) h)
    refine j_drop 2 ?_
    exact kk
  | succ n ih =>
    intro g S hgn kk
    have hg : g < 4 := by omega
    have next : ∀ S1 : St, S1 = wtS g S → J x G 0 0 Q (wM G bd S1 dn) 122 [some (.ref (bd 0)), none, some (.int (nI (g + 1)))] [] := by
      intro S1 e1
      subst e1
      exact ih (g + 1) _ (by omega) kk
    refine j_iload_n X d_Md_tick_122 rfl ?_
    refine j_iconst (v := 4) X d_Md_tick_123 (by decide) ?_
    refine j_icmp_ge (tgt := 162) X d_Md_tick_124 (by decide) (fun h => absurd h ((okG_of hg).2)) (fun _ => ?_)
    refine j_aload_n X d_Md_tick_127 rfl ?_
    refine j_get X i_Md 0 rfl rfl 12 (by decide) fl_Md_35 rfl d_Md_tick_128 ?_
    refine j_iload_n X d_Md_tick_131 rfl ?_
    refine j_ialdN X 9 rfl hg (by decide) d_Md_tick_132 ?_
    refine j_if_ne (tgt := 156) X d_Md_tick_133 (by decide) (fun h1 => ?_) (fun h1 => ?_)
    · refine j_iinc (v := nI (g + 1)) X d_Md_tick_156 rfl (inc1 _) ?_
      refine j_goto (tgt := 122) X d_Md_tick_159 (by decide) ?_
      exact next _ (by unfold wtS; rw [if_neg h1])
    · refine j_aload_n X d_Md_tick_136 rfl ?_
      refine j_iload_n X d_Md_tick_137 rfl ?_
      refine j_callVi0 X [.int (nI g)] [] (c_Md_asks _ _ _ _ _ g hg) ok_Md_65 (q0 := 0) rfl rfl rfl (Nat.le_of_ble_eq_true rfl) ⟨Nat.le_of_ble_eq_true rfl, Nat.le_of_ble_eq_true rfl⟩ ⟨rfl, rfl⟩ rfl ⟨Nat.le_of_ble_eq_true rfl, Nat.le_of_ble_eq_true rfl⟩ d_Md_tick_138 (fun r w1 hw => ?_)
      obtain ⟨rfl, rfl⟩ := hw
      by_cases hA : S 30 0 &&& S 10 g = 0
      · refine j_if_eq (tgt := 156) X d_Md_tick_141 (by decide) (fun _ => ?_) (fun h => absurd (if_pos hA) h)
        refine j_iinc (v := nI (g + 1)) X d_Md_tick_156 rfl (inc1 _) ?_
        refine j_goto (tgt := 122) X d_Md_tick_159 (by decide) ?_
        exact next _ (by unfold wtS; rw [if_pos h1, if_pos hA])
      · refine j_if_eq (tgt := 156) X d_Md_tick_141 (by decide) (fun h => absurd h (by rw [if_neg hA]; decide)) (fun _ => ?_)
        refine j_aload_n X d_Md_tick_144 rfl ?_
        refine j_get X i_Md 0 rfl rfl 12 (by decide) fl_Md_35 rfl d_Md_tick_145 ?_
        refine j_iload_n X d_Md_tick_148 rfl ?_
        refine j_aload_n X d_Md_tick_149 rfl ?_
        refine j_get X i_Md 0 rfl rfl 11 (by decide) fl_Md_32 rfl d_Md_tick_150 ?_
        refine j_iload_n X d_Md_tick_153 rfl ?_
        refine j_ialdN X 8 rfl hg (by decide) d_Md_tick_154 ?_
        refine j_iastN X 9 rfl hg (by decide) d_Md_tick_155 ?_
        refine j_eqw wM_9 ?_
        refine j_iinc (v := nI (g + 1)) X d_Md_tick_156 rfl (inc1 _) ?_
        refine j_goto (tgt := 122) X d_Md_tick_159 (by decide) ?_
        exact next _ (by unfold wtS; rw [if_pos h1, if_neg hA])
set_option maxHeartbeats 4000000 in
set_option maxRecDepth 100000 in
theorem c_Md_tick (l : Launch) (G : Gid) (bd : Nat → Nat) (S : St) (dn : Nat → Int32) (hm : ∀ i, ∃ m : Nat, m < 256 ∧ S 10 i = nI m) (B : Nat) (hB : Bnd B S) (hB2 : B + 4 < 2 ^ 31) : CtV l y_Md_tick b_Md_tick 3 r2 G [.ref (bd 0)] (wM G bd S dn) 0 0 (fun w => ∃ dn1, w = wM G bd (tick S) dn1) := by
  refine CtV.of (own := R_Md) (L := [some (.ref (bd 0)), none, none]) (by decide) rfl rfl (Nat.le_of_ble_eq_true rfl) rfl (fun x X hnm => ?_)
  refine j_aload_n X d_Md_tick_0 rfl ?_
  refine j_dup X d_Md_tick_1 rfl ?_
  refine j_get X i_Md 0 rfl rfl 1 (by decide) fl_Md_69 rfl d_Md_tick_2 ?_
  refine j_iconst (v := 1) X d_Md_tick_5 (by decide) ?_
  refine j_iadd X d_Md_tick_6 ?_
  refine j_put X i_Md t_Md t_Md_ok n_Md 0 rfl rfl 1 (by decide) fl_Md_69 rfl rfl rfl rfl (Nat.le_of_ble_eq_true rfl) d_Md_tick_7 ?_
  refine j_eqw wM_now ?_
  refine j_iconst (v := 0) X d_Md_tick_10 (by decide) ?_
  refine j_istore_n X d_Md_tick_11 (Nat.le_of_ble_eq_true rfl) ?_
  refine j_iconst (v := 0) X d_Md_tick_12 (by decide) ?_
  refine j_istore_n X d_Md_tick_13 (Nat.le_of_ble_eq_true rfl) ?_
  refine lp_tick1 X dn 8 0 0 _ rfl ?_
  refine j_iconst (v := 0) X d_Md_tick_53 (by decide) ?_
  refine j_istore_n X d_Md_tick_54 (Nat.le_of_ble_eq_true rfl) ?_
  refine lp_tick2 X 4 0 _ dn B rfl (fun i => by rw [tm_f (by decide) (by decide) (by decide) (by decide) (by decide)]; exact hm i) (Bnd.tm (by obtain ⟨c, h1, h2⟩ := hB; exact ⟨c, h1, h2⟩)) (by omega) (fun dn1 => ?_)
  refine j_iconst (v := 0) X d_Md_tick_120 (by decide) ?_
  refine j_istore_n X d_Md_tick_121 (Nat.le_of_ble_eq_true rfl) ?_
  refine lp_tick3 X dn1 4 0 _ rfl ?_
  exact j_vret X ⟨dn1, rfl⟩ d_Md_tick_162
set_option maxHeartbeats 4000000 in
set_option maxRecDepth 100000 in
theorem lp_mclear {x : Ctx} {G : Gid} {bd : Nat → Nat} {Q : State → Prop} (X : Fix x G b_Md_clear 4 R_Md (some .int) r1) (dn : Nat → Int32) (m are : Int32) : ∀ (n t : Nat) (S : St), t + n = 8 → J x G 0 0 Q (wM G bd (clr are 8 S) dn) 52 [some (.ref (bd 0)), some (.int m), some (.int are), some (.int (nI 8))] [] → J x G 0 0 Q (wM G bd (clr are t S) dn) 22 [some (.ref (bd 0)), some (.int m), some (.int are), some (.int (nI t))] [] := by
  intro n
  induction n with
  | zero =>
    intro t S ht
    have e : t = 8 := by omega
    subst e
    intro k
    refine j_iload_n X d_Md_clear_22 rfl ?_
    refine j_bipush (v := 8) X d_Md_clear_23 (by decide) ?_
    refine j_icmp_ge (tgt := 52) X d_Md_clear_25 (by decide) (fun _ => ?_) (fun h => absurd (by decide) h)
    exact k
  | succ n ih =>
    intro t S htn
    intro k
    have ht : t < 8 := by omega
    refine j_iload_n X d_Md_clear_22 rfl ?_
    refine j_bipush (v := 8) X d_Md_clear_23 (by decide) ?_
    refine j_icmp_ge (tgt := 52) X d_Md_clear_25 (by decide) (fun h => absurd h ((okT_of ht).2)) (fun _ => ?_)
    refine j_aload_n X d_Md_clear_28 rfl ?_
    refine j_get X i_Md 0 rfl rfl 9 (by decide) fl_Md_26 rfl d_Md_clear_29 ?_
    refine j_iconst (v := 4) X d_Md_clear_32 (by decide) ?_
    refine j_iload_n X d_Md_clear_33 rfl ?_
    refine j_imul X d_Md_clear_34 ?_
    refine j_iconst (v := 3) X d_Md_clear_35 (by decide) ?_
    refine j_iadd X d_Md_clear_36 ?_
    refine j_top (ix4 t 3) ?_
    refine j_dup2 X d_Md_clear_37 rfl rfl ?_
    refine j_ialdN X 6 rfl (show 4 * t + 3 < 32 by omega) (by decide) d_Md_clear_38 ?_
    refine j_top oft_3 ?_
    refine j_iload_n X d_Md_clear_39 rfl ?_
    refine j_iload_n X d_Md_clear_40 rfl ?_
    refine j_ishr X d_Md_clear_41 ?_
    refine j_iconst (v := 1) X d_Md_clear_42 (by decide) ?_
    refine j_iand X d_Md_clear_43 ?_
    refine j_iadd X d_Md_clear_44 ?_
    refine j_iastN X 6 rfl (show 4 * t + 3 < 32 by omega) (by decide) d_Md_clear_45 ?_
    refine j_eqw wM_63 ?_
    refine j_eqw (congrArg (fun z => wM G bd z dn) (clr_s are t S)) ?_
    refine j_iinc (v := nI (t + 1)) X d_Md_clear_46 rfl (inc1 _) ?_
    refine j_goto (tgt := 22) X d_Md_clear_49 (by decide) ?_
    exact ih (t + 1) S (by omega) k
set_option maxHeartbeats 4000000 in
set_option maxRecDepth 100000 in
theorem c_Md_clear (l : Launch) (G : Gid) (bd : Nat → Nat) (S : St) (dn : Nat → Int32) (m : Int32) : CtI l y_Md_clear b_Md_clear 4 (some .int) r1 G [.ref (bd 0), .int m] (wM G bd S dn) 0 0 (fun r w => ∃ S1 dn1, PClear S m r S1 ∧ w = wM G bd S1 dn1) := by
  refine CtI.of (own := R_Md) (L := [some (.ref (bd 0)), some (.int m), none, none]) (by decide) rfl rfl (Nat.le_of_ble_eq_true rfl) rfl (fun x X => ?_)
  refine j_iload_n X d_Md_clear_0 rfl ?_
  refine j_iconst (v := 0) X d_Md_clear_1 (by decide) ?_
  refine j_sipush (v := 255) X d_Md_clear_2 (by decide) ?_
  refine j_callSi0 X [.int m, .int 0, .int 255] [] (c_Md_isIn _ _ _ m 0 255) ok_Md_57 rfl (Nat.le_of_ble_eq_true rfl) ⟨Nat.le_of_ble_eq_true rfl, Nat.le_of_ble_eq_true rfl⟩ ⟨rfl, rfl⟩ rfl ⟨Nat.le_of_ble_eq_true rfl, Nat.le_of_ble_eq_true rfl⟩ d_Md_clear_5 (fun r w1 hw => ?_)
  obtain ⟨rfl, hw⟩ := hw
  rcases hw with ⟨h1, rfl⟩ | ⟨h1, rfl⟩
  · refine j_if_ne (tgt := 13) X d_Md_clear_8 (by decide) (fun _ => ?_) (fun h => absurd h (by decide))
    refine j_aload_n X d_Md_clear_13 rfl ?_
    refine j_get X i_Md 0 rfl rfl 2 (by decide) fl_Md_62 rfl d_Md_clear_14 ?_
    refine j_iload_n X d_Md_clear_17 rfl ?_
    refine j_iand X d_Md_clear_18 ?_
    refine j_istore_n X d_Md_clear_19 (Nat.le_of_ble_eq_true rfl) ?_
    refine j_iconst (v := 0) X d_Md_clear_20 (by decide) ?_
    refine j_istore_n X d_Md_clear_21 (Nat.le_of_ble_eq_true rfl) ?_
    refine j_eqw (congrArg (fun z => wM G bd z dn) (clr_0 (S 30 0 &&& m) S)).symm ?_
    refine lp_mclear X dn m (S 30 0 &&& m) 8 0 S rfl ?_
    refine j_aload_n X d_Md_clear_52 rfl ?_
    refine j_dup X d_Md_clear_53 rfl ?_
    refine j_get X i_Md 0 rfl rfl 2 (by decide) fl_Md_62 rfl d_Md_clear_54 ?_
    refine j_iload_n X d_Md_clear_57 rfl ?_
    refine j_isub X d_Md_clear_58 ?_
    refine j_top (sub_and (S 30 0) m) ?_
    refine j_put X i_Md t_Md t_Md_ok n_Md 0 rfl rfl 2 (by decide) fl_Md_62 rfl rfl rfl rfl (Nat.le_of_ble_eq_true rfl) d_Md_clear_59 ?_
    refine j_eqw wM_sta ?_
    refine j_iload_n X d_Md_clear_62 rfl ?_
    exact j_iret X ⟨_, dn, Or.inl ⟨⟨h1.1, Int32.not_lt.mp h1.2⟩, rfl, rfl⟩, rfl⟩ d_Md_clear_63
  · refine j_if_ne (tgt := 13) X d_Md_clear_8 (by decide) (fun h => absurd (rfl) h) (fun _ => ?_)
    refine j_iconst (v := -1) X d_Md_clear_11 (by decide) ?_
    exact j_iret X ⟨S, dn, Or.inr ⟨fun h => h1 ⟨h.1, Int32.not_lt.mpr h.2⟩, rfl, rfl⟩, rfl⟩ d_Md_clear_12
set_option maxHeartbeats 4000000 in
set_option maxRecDepth 100000 in
theorem lp_mlook {x : Ctx} {G : Gid} {bd : Nat → Nat} {Q : State → Prop} (X : Fix x G b_Md_look 4 R_Md (some .int) rz) (S : St) (dn : Nat → Int32) (hI : Inv S) (w : Int32) : ∀ (n i : Nat) (r : Int32), i + n = 8 → PLi S i r → (∀ r : Int32, PLi S 8 r → J x G 0 0 Q (wM G bd S dn) 91 [some (.ref (bd 0)), some (.int w), some (.int r), some (.int (nI 8))] []) → J x G 0 0 Q (wM G bd S dn) 40 [some (.ref (bd 0)), some (.int w), some (.int r), some (.int (nI i))] [] := by
  intro n
  induction n with
  | zero =>
    intro i r hi hL k
    have e : i = 8 := by omega
    subst e
    refine j_iload_n X d_Md_look_40 rfl ?_
    refine j_bipush (v := 8) X d_Md_look_41 (by decide) ?_
    refine j_icmp_ge (tgt := 91) X d_Md_look_43 (by decide) (fun _ => ?_) (fun h => absurd (by decide) h)
    exact k r hL
  | succ n ih =>
    intro i r hi hL k
    have ht : i < 8 := by omega
    refine j_iload_n X d_Md_look_40 rfl ?_
    refine j_bipush (v := 8) X d_Md_look_41 (by decide) ?_
    refine j_icmp_ge (tgt := 91) X d_Md_look_43 (by decide) (fun h => absurd h ((okT_of ht).2)) (fun _ => ?_)
    refine j_aload_n X d_Md_look_46 rfl ?_
    refine j_get X i_Md 0 rfl rfl 8 (by decide) fl_Md_23 rfl d_Md_look_47 ?_
    refine j_iload_n X d_Md_look_50 rfl ?_
    refine j_zaldN X 5 rfl ht (by decide) d_Md_look_51 ?_
    refine j_if_eq (tgt := 85) X d_Md_look_52 (by decide) (fun h1 => ?_) (fun h1 => ?_)
    · refine j_iinc (v := nI (i + 1)) X d_Md_look_85 rfl (inc1 _) ?_
      refine j_goto (tgt := 40) X d_Md_look_88 (by decide) ?_
      exact ih (i + 1) _ (by omega) (hL.B (fun h => h.1 h1)) k
    · refine j_aload_n X d_Md_look_55 rfl ?_
      refine j_get X i_Md 0 rfl rfl 6 (by decide) fl_Md_16 rfl d_Md_look_56 ?_
      refine j_iload_n X d_Md_look_59 rfl ?_
      refine j_ialdN X 3 rfl ht (by decide) d_Md_look_60 ?_
      refine j_if_ne (tgt := 85) X d_Md_look_61 (by decide) (fun h2 => ?_) (fun h2 => ?_)
      · refine j_iinc (v := nI (i + 1)) X d_Md_look_85 rfl (inc1 _) ?_
        refine j_goto (tgt := 40) X d_Md_look_88 (by decide) ?_
        exact ih (i + 1) _ (by omega) (hL.B (fun h => h2 h.2)) k
      · refine j_iload_n X d_Md_look_64 rfl ?_
        refine j_if_eq (tgt := 78) X d_Md_look_65 (by decide) (fun h3 => ?_) (fun h3 => ?_)
        · refine j_aload_n X d_Md_look_78 rfl ?_
          refine j_get X i_Md 0 rfl rfl 5 (by decide) fl_Md_13 rfl d_Md_look_79 ?_
          refine j_iload_n X d_Md_look_82 rfl ?_
          refine j_ialdN X 2 rfl ht (by decide) d_Md_look_83 ?_
          refine j_istore_n X d_Md_look_84 (Nat.le_of_ble_eq_true rfl) ?_
          refine j_iinc (v := nI (i + 1)) X d_Md_look_85 rfl (inc1 _) ?_
          refine j_goto (tgt := 40) X d_Md_look_88 (by decide) ?_
          exact ih (i + 1) _ (by omega) (PLi.A hI hL ⟨h1, h2⟩ (Or.inl h3)) k
        · refine j_aload_n X d_Md_look_68 rfl ?_
          refine j_get X i_Md 0 rfl rfl 5 (by decide) fl_Md_13 rfl d_Md_look_69 ?_
          refine j_iload_n X d_Md_look_72 rfl ?_
          refine j_ialdN X 2 rfl ht (by decide) d_Md_look_73 ?_
          refine j_iload_n X d_Md_look_74 rfl ?_
          refine j_icmp_ge (tgt := 85) X d_Md_look_75 (by decide) (fun h4 => ?_) (fun h4 => ?_)
          · refine j_iinc (v := nI (i + 1)) X d_Md_look_85 rfl (inc1 _) ?_
            refine j_goto (tgt := 40) X d_Md_look_88 (by decide) ?_
            exact ih (i + 1) _ (by omega) (hL.C h3 h4) k
          · refine j_aload_n X d_Md_look_78 rfl ?_
            refine j_get X i_Md 0 rfl rfl 5 (by decide) fl_Md_13 rfl d_Md_look_79 ?_
            refine j_iload_n X d_Md_look_82 rfl ?_
            refine j_ialdN X 2 rfl ht (by decide) d_Md_look_83 ?_
            refine j_istore_n X d_Md_look_84 (Nat.le_of_ble_eq_true rfl) ?_
            refine j_iinc (v := nI (i + 1)) X d_Md_look_85 rfl (inc1 _) ?_
            refine j_goto (tgt := 40) X d_Md_look_88 (by decide) ?_
            exact ih (i + 1) _ (by omega) (PLi.A hI hL ⟨h1, h2⟩ (Or.inr (Int32.not_le.mp h4))) k
set_option maxHeartbeats 4000000 in
set_option maxRecDepth 100000 in
theorem c_Md_look (l : Launch) (G : Gid) (bd : Nat → Nat) (S : St) (dn : Nat → Int32) (hI : Inv S) (w : Int32) : CtI l y_Md_look b_Md_look 4 (some .int) rz G [.ref (bd 0), .int w] (wM G bd S dn) 0 0 (fun r w1 => w1 = wM G bd S dn ∧ PLook S w r) := by
  refine CtI.of (own := R_Md) (L := [some (.ref (bd 0)), some (.int w), none, none]) (by decide) rfl rfl (Nat.le_of_ble_eq_true rfl) rfl (fun x X => ?_)
  refine j_iload_n X d_Md_look_0 rfl ?_
  refine j_if_ne (tgt := 9) X d_Md_look_1 (by decide) (fun h0 => ?_) (fun h0 => ?_)
  · refine j_iload_n X d_Md_look_9 rfl ?_
    refine j_iconst (v := 1) X d_Md_look_10 (by decide) ?_
    refine j_icmp_ne (tgt := 19) X d_Md_look_11 (by decide) (fun h1 => ?_) (fun h1 => ?_)
    · refine j_iload_n X d_Md_look_19 rfl ?_
      refine j_iconst (v := 2) X d_Md_look_20 (by decide) ?_
      refine j_icmp_ne (tgt := 29) X d_Md_look_21 (by decide) (fun h2 => ?_) (fun h2 => ?_)
      · refine j_iload_n X d_Md_look_29 rfl ?_
        refine j_iconst (v := 3) X d_Md_look_30 (by decide) ?_
        refine j_icmp_eq (tgt := 36) X d_Md_look_31 (by decide) (fun h3 => ?_) (fun h3 => ?_)
        · refine j_iconst (v := 0) X d_Md_look_36 (by decide) ?_
          refine j_istore_n X d_Md_look_37 (Nat.le_of_ble_eq_true rfl) ?_
          refine j_iconst (v := 0) X d_Md_look_38 (by decide) ?_
          refine j_istore_n X d_Md_look_39 (Nat.le_of_ble_eq_true rfl) ?_
          refine lp_mlook X S dn hI w 8 0 0 rfl (Or.inl ⟨fun t h => absurd h (by omega), rfl⟩) (fun r hr => ?_)
          refine j_iload_n X d_Md_look_91 rfl ?_
          exact j_iret X ⟨rfl, Or.inr (Or.inr (Or.inr (Or.inl ⟨h3, hr⟩)))⟩ d_Md_look_92
        · refine j_iconst (v := -1) X d_Md_look_34 (by decide) ?_
          exact j_iret X ⟨rfl, Or.inr (Or.inr (Or.inr (Or.inr ⟨h0, h1, h2, h3, rfl⟩)))⟩ d_Md_look_35
      · refine j_aload_n X d_Md_look_24 rfl ?_
        refine j_get X i_Md 0 rfl rfl 3 (by decide) fl_Md_72 rfl d_Md_look_25 ?_
        exact j_iret X ⟨rfl, Or.inr (Or.inr (Or.inl ⟨h2, rfl⟩))⟩ d_Md_look_28
    · refine j_aload_n X d_Md_look_14 rfl ?_
      refine j_get X i_Md 0 rfl rfl 1 (by decide) fl_Md_69 rfl d_Md_look_15 ?_
      exact j_iret X ⟨rfl, Or.inr (Or.inl ⟨h1, rfl⟩)⟩ d_Md_look_18
  · refine j_aload_n X d_Md_look_4 rfl ?_
    refine j_get X i_Md 0 rfl rfl 2 (by decide) fl_Md_62 rfl d_Md_look_5 ?_
    exact j_iret X ⟨rfl, Or.inl ⟨h0, rfl⟩⟩ d_Md_look_8
set_option maxHeartbeats 4000000 in
set_option maxRecDepth 100000 in
theorem lp_madv {x : Ctx} {G : Gid} {bd : Nat → Nat} {Q : State → Prop} (X : Fix x G b_Md_advance 4 R_Md (some .int) r3) (N : Nat) (hN : N ≤ 20000) (c0 : Int32) : ∀ (n k : Nat) (S : St) (dn : Nat → Int32) (B : Nat), k + n = N → Inv S → Bnd B S → B + 4 * n + 4 < 2 ^ 31 → (∀ dn1, J x G 0 0 Q (wM G bd (tickN n S) dn1) 35 [some (.ref (bd 0)), some (.int (nI N)), some (.int c0), none] []) → J x G 0 0 Q (wM G bd S dn) 20 [some (.ref (bd 0)), some (.int (nI N)), some (.int c0), some (.int (nI k))] [] := by
  intro n
  induction n with
  | zero =>
    intro k S dn B hk hI hB hB2 kk
    have e : k = N := by omega
    subst e
    refine j_iload_n X d_Md_advance_20 rfl ?_
    refine j_iload_n X d_Md_advance_21 rfl ?_
    refine j_icmp_ge (tgt := 35) X d_Md_advance_22 (by decide) (fun _ => ?_) (fun h => absurd (nI_le (Nat.le_refl _) (by omega)) h)
    refine j_drop 3 ?_
    exact kk dn
  | succ n ih =>
    intro k S dn B hk hI hB hB2 kk
    refine j_iload_n X d_Md_advance_20 rfl ?_
    refine j_iload_n X d_Md_advance_21 rfl ?_
    refine j_icmp_ge (tgt := 35) X d_Md_advance_22 (by decide) (fun h => absurd h (nI_ge (by omega) (by omega))) (fun _ => ?_)
    refine j_aload_n X d_Md_advance_25 rfl ?_
    refine j_callVv0 X [] [] (c_Md_tick _ _ _ S dn hI.mask B hB (by omega)) ok_Md_82 (q0 := 0) rfl rfl rfl (Nat.le_of_ble_eq_true rfl) ⟨Nat.le_of_ble_eq_true rfl, Nat.le_of_ble_eq_true rfl⟩ ⟨rfl, rfl⟩ rfl ⟨Nat.le_of_ble_eq_true rfl, Nat.le_of_ble_eq_true rfl⟩ d_Md_advance_26 (fun w1 hw => ?_)
    obtain ⟨dn1, rfl⟩ := hw
    refine j_iinc (v := nI (k + 1)) X d_Md_advance_29 rfl (inc1 _) ?_
    refine j_goto (tgt := 20) X d_Md_advance_32 (by decide) ?_
    exact ih (k + 1) (tick S) dn1 (B + 4) (by omega) (Inv_tick hI) (Bnd_passS hB) (by omega) kk
set_option maxHeartbeats 4000000 in
set_option maxRecDepth 100000 in
theorem c_Md_advance (l : Launch) (G : Gid) (bd : Nat → Nat) (S : St) (dn : Nat → Int32) (hI : Inv S) (B : Nat) (hB : Bnd B S) (hB2 : B + 80004 < 2 ^ 31) (n : Int32) : CtI l y_Md_advance b_Md_advance 4 (some .int) r3 G [.ref (bd 0), .int n] (wM G bd S dn) 0 0 (fun r w => ∃ S1 dn1, PAdv S n r S1 ∧ w = wM G bd S1 dn1) := by
  refine CtI.of (own := R_Md) (L := [some (.ref (bd 0)), some (.int n), none, none]) (by decide) rfl rfl (Nat.le_of_ble_eq_true rfl) rfl (fun x X => ?_)
  refine j_iload_n X d_Md_advance_0 rfl ?_
  refine j_iconst (v := 0) X d_Md_advance_1 (by decide) ?_
  refine j_sipush (v := 20000) X d_Md_advance_2 (by decide) ?_
  refine j_callSi0 X [.int n, .int 0, .int 20000] [] (c_Md_isIn _ _ _ n 0 20000) ok_Md_57 rfl (Nat.le_of_ble_eq_true rfl) ⟨Nat.le_of_ble_eq_true rfl, Nat.le_of_ble_eq_true rfl⟩ ⟨rfl, rfl⟩ rfl ⟨Nat.le_of_ble_eq_true rfl, Nat.le_of_ble_eq_true rfl⟩ d_Md_advance_5 (fun r w1 hw => ?_)
  obtain ⟨rfl, hw⟩ := hw
  rcases hw with ⟨h1, rfl⟩ | ⟨h1, rfl⟩
  · obtain ⟨k, hk, rfl⟩ := okN_j ⟨h1.1, Int32.not_lt.mp h1.2⟩
    refine j_if_ne (tgt := 13) X d_Md_advance_8 (by decide) (fun _ => ?_) (fun h => absurd h (by decide))
    refine j_aload_n X d_Md_advance_13 rfl ?_
    refine j_get X i_Md 0 rfl rfl 3 (by decide) fl_Md_72 rfl d_Md_advance_14 ?_
    refine j_istore_n X d_Md_advance_17 (Nat.le_of_ble_eq_true rfl) ?_
    refine j_iconst (v := 0) X d_Md_advance_18 (by decide) ?_
    refine j_istore_n X d_Md_advance_19 (Nat.le_of_ble_eq_true rfl) ?_
    refine lp_madv X k hk (S 32 0) k 0 S dn B (by omega) hI hB (by omega) (fun dn1 => ?_)
    refine j_aload_n X d_Md_advance_35 rfl ?_
    refine j_get X i_Md 0 rfl rfl 3 (by decide) fl_Md_72 rfl d_Md_advance_36 ?_
    refine j_iload_n X d_Md_advance_39 rfl ?_
    refine j_isub X d_Md_advance_40 ?_
    exact j_iret X ⟨_, dn1, Or.inl ⟨k, hk, rfl, rfl, rfl⟩, rfl⟩ d_Md_advance_41
  · refine j_if_ne (tgt := 13) X d_Md_advance_8 (by decide) (fun h => absurd (rfl) h) (fun _ => ?_)
    refine j_iconst (v := -1) X d_Md_advance_11 (by decide) ?_
    exact j_iret X ⟨S, dn, Or.inr ⟨fun h => h1 ⟨h.1, Int32.not_lt.mpr h.2⟩, rfl, rfl⟩, rfl⟩ d_Md_advance_12
set_option maxHeartbeats 4000000 in
set_option maxRecDepth 100000 in
theorem lp_mnext {x : Ctx} {G : Gid} {bd : Nat → Nat} {Q : State → Prop} (X : Fix x G b_Md_next 4 R_Md (some .int) r3) (N : Nat) (hN : N ≤ 20000) (c0 : Int32) : ∀ (n k : Nat) (S : St) (dn : Nat → Int32) (B : Nat), k + n = N → S 32 0 = c0 → Inv S → Bnd B S → B + 4 * n + 4 < 2 ^ 31 → (∀ dn1, J x G 0 0 Q (wM G bd (nx n S).2 dn1) 43 [some (.ref (bd 0)), some (.int (nI N)), some (.int c0), some (.int (nI (k + (nx n S).1)))] []) → J x G 0 0 Q (wM G bd S dn) 20 [some (.ref (bd 0)), some (.int (nI N)), some (.int c0), some (.int (nI k))] [] := by
  intro n
  induction n with
  | zero =>
    intro k S dn B hk hc hI hB hB2 kk
    have e : k = N := by omega
    subst e
    refine j_iload_n X d_Md_next_20 rfl ?_
    refine j_iload_n X d_Md_next_21 rfl ?_
    refine j_icmp_ge (tgt := 43) X d_Md_next_22 (by decide) (fun _ => ?_) (fun h => absurd (nI_le (Nat.le_refl _) (by omega)) h)
    exact kk dn
  | succ n ih =>
    intro k S dn B hk hc hI hB hB2 kk
    refine j_iload_n X d_Md_next_20 rfl ?_
    refine j_iload_n X d_Md_next_21 rfl ?_
    refine j_icmp_ge (tgt := 43) X d_Md_next_22 (by decide) (fun h => absurd h (nI_ge (by omega) (by omega))) (fun _ => ?_)
    refine j_aload_n X d_Md_next_25 rfl ?_
    refine j_get X i_Md 0 rfl rfl 3 (by decide) fl_Md_72 rfl d_Md_next_26 ?_
    refine j_iload_n X d_Md_next_29 rfl ?_
    refine j_icmp_ne (tgt := 43) X d_Md_next_30 (by decide) (fun h => absurd (hc) h) (fun _ => ?_)
    refine j_aload_n X d_Md_next_33 rfl ?_
    refine j_callVv0 X [] [] (c_Md_tick _ _ _ S dn hI.mask B hB (by omega)) ok_Md_82 (q0 := 0) rfl rfl rfl (Nat.le_of_ble_eq_true rfl) ⟨Nat.le_of_ble_eq_true rfl, Nat.le_of_ble_eq_true rfl⟩ ⟨rfl, rfl⟩ rfl ⟨Nat.le_of_ble_eq_true rfl, Nat.le_of_ble_eq_true rfl⟩ d_Md_next_34 (fun w1 hw => ?_)
    obtain ⟨dn1, rfl⟩ := hw
    have hIT := Inv_tick hI
    have hBT : Bnd (B + 4) (tick S) := Bnd_passS hB
    rw [nx_s] at kk
    generalize tick S = T at hIT hBT kk ⊢
    refine j_iinc (v := nI (k + 1)) X d_Md_next_37 rfl (inc1 _) ?_
    refine j_goto (tgt := 20) X d_Md_next_40 (by decide) ?_
    by_cases hT : T 32 0 = S 32 0
    · rw [if_pos hT] at kk
      refine ih (k + 1) T dn1 (B + 4) (by omega) (hT.trans hc) hIT hBT (by omega) ?_
      rw [show k + 1 + (nx n T).1 = k + ((nx n T).1 + 1) by omega]
      exact kk
    · rw [if_neg hT] at kk
      refine j_iload_n X d_Md_next_20 rfl ?_
      refine j_iload_n X d_Md_next_21 rfl ?_
      by_cases h5 : k + 1 = N
      · refine j_icmp_ge (tgt := 43) X d_Md_next_22 (by decide) (fun _ => ?_) (fun h => absurd (by rw [h5]; exact nI_le (Nat.le_refl _) (by omega)) h)
        exact kk dn1
      · refine j_icmp_ge (tgt := 43) X d_Md_next_22 (by decide) (fun h => absurd h (nI_ge (by omega) (by omega))) (fun _ => ?_)
        refine j_aload_n X d_Md_next_25 rfl ?_
        refine j_get X i_Md 0 rfl rfl 3 (by decide) fl_Md_72 rfl d_Md_next_26 ?_
        refine j_iload_n X d_Md_next_29 rfl ?_
        refine j_icmp_ne (tgt := 43) X d_Md_next_30 (by decide) (fun _ => ?_) (fun h => absurd h (fun e => hT (e.trans hc.symm)))
        exact kk dn1
set_option maxHeartbeats 4000000 in
set_option maxRecDepth 100000 in
theorem c_Md_next (l : Launch) (G : Gid) (bd : Nat → Nat) (S : St) (dn : Nat → Int32) (hI : Inv S) (B : Nat) (hB : Bnd B S) (hB2 : B + 80004 < 2 ^ 31) (n : Int32) : CtI l y_Md_next b_Md_next 4 (some .int) r3 G [.ref (bd 0), .int n] (wM G bd S dn) 0 0 (fun r w => ∃ S1 dn1, PNext S n r S1 ∧ w = wM G bd S1 dn1) := by
  refine CtI.of (own := R_Md) (L := [some (.ref (bd 0)), some (.int n), none, none]) (by decide) rfl rfl (Nat.le_of_ble_eq_true rfl) rfl (fun x X => ?_)
  refine j_iload_n X d_Md_next_0 rfl ?_
  refine j_iconst (v := 0) X d_Md_next_1 (by decide) ?_
  refine j_sipush (v := 20000) X d_Md_next_2 (by decide) ?_
  refine j_callSi0 X [.int n, .int 0, .int 20000] [] (c_Md_isIn _ _ _ n 0 20000) ok_Md_57 rfl (Nat.le_of_ble_eq_true rfl) ⟨Nat.le_of_ble_eq_true rfl, Nat.le_of_ble_eq_true rfl⟩ ⟨rfl, rfl⟩ rfl ⟨Nat.le_of_ble_eq_true rfl, Nat.le_of_ble_eq_true rfl⟩ d_Md_next_5 (fun r w1 hw => ?_)
  obtain ⟨rfl, hw⟩ := hw
  rcases hw with ⟨h1, rfl⟩ | ⟨h1, rfl⟩
  · obtain ⟨k, hk, rfl⟩ := okN_j ⟨h1.1, Int32.not_lt.mp h1.2⟩
    refine j_if_ne (tgt := 13) X d_Md_next_8 (by decide) (fun _ => ?_) (fun h => absurd h (by decide))
    refine j_aload_n X d_Md_next_13 rfl ?_
    refine j_get X i_Md 0 rfl rfl 3 (by decide) fl_Md_72 rfl d_Md_next_14 ?_
    refine j_istore_n X d_Md_next_17 (Nat.le_of_ble_eq_true rfl) ?_
    refine j_iconst (v := 0) X d_Md_next_18 (by decide) ?_
    refine j_istore_n X d_Md_next_19 (Nat.le_of_ble_eq_true rfl) ?_
    refine lp_mnext X k hk (S 32 0) k 0 S dn B (by omega) rfl hI hB (by omega) (fun dn1 => ?_)
    rw [Nat.zero_add]
    refine j_iload_n X d_Md_next_43 rfl ?_
    exact j_iret X ⟨_, dn1, Or.inl ⟨k, hk, rfl, rfl, rfl⟩, rfl⟩ d_Md_next_44
  · refine j_if_ne (tgt := 13) X d_Md_next_8 (by decide) (fun h => absurd (rfl) h) (fun _ => ?_)
    refine j_iconst (v := -1) X d_Md_next_11 (by decide) ?_
    exact j_iret X ⟨S, dn, Or.inr ⟨fun h => h1 ⟨h.1, Int32.not_lt.mpr h.2⟩, rfl, rfl⟩, rfl⟩ d_Md_next_12
end
section
def ri : Room := { frames := 1, cells := 0, slots := 0, locals := 16 }
def rb : Room := { frames := 1, cells := 3, slots := 48, locals := 16 }
def rX : Room := { frames := 2, cells := 18, slots := 160, locals := 40 }
def rMi : Room := { frames := 1, cells := 14, slots := 148, locals := 16 }
def S0 : St := fun f => match f with
  | 0 => fun _ => 1
  | 1 => fun _ => 1
  | 11 => fun _ => 1
  | 15 => fun _ => -1
  | _ => fun _ => 0
theorem cell_i {cA : ClassId} {n : Nat} {f g : Nat → Int32} (h : ∀ i, i < n → f i = g i) : vp_cell cA (n, .inl f) = vp_cell cA (n, .inl g) := by
  rw [vp_cell_i, vp_cell_i]
  unfold arrV
  congr 1
  apply Array.ext
  · simp
  · intro i h1 h2
    simp at h1 ⊢
    exact h i h1
theorem cell_q {cA : ClassId} {n : Nat} {f g : Nat → Option Nat} (h : ∀ i, i < n → f i = g i) : vp_cell cA (n, .inr (.inr (.inr (.inr f)))) = vp_cell cA (n, .inr (.inr (.inr (.inr g)))) := by
  rw [vp_cell_q, vp_cell_q]
  unfold arrV
  congr 1
  apply Array.ext
  · simp
  · intro i h1 h2
    simp at h1 ⊢
    rw [h i h1]
theorem j_cong {x : Ctx} {G : Gid} {a b : Nat} {Q : State → Prop} {ws : va_W} {pc : Nat} {L : List (Option Value)} {st : List Value} {o : Nat} {cA : ClassId} {y y' : vp_A} (k : Nat) (he : ws[k]? = some (o, .inl (cA, y))) (hc : vp_cell cA y = vp_cell cA y') (kk : J x G a b Q (ws.set k (o, .inl (cA, y'))) pc L st) : J x G a b Q ws pc L st := by
  obtain ⟨p, l, e, R, s, m, args, below, meth, c, A⟩ := x
  intro H locs ls hP hD hS hl
  refine kk H locs ls (hP.set hD he ?_ (fun q _ => rfl)) (hD.set he) hS hl
  have h1 : H[o]? = some (vp_cell cA y) := hP k _ he
  show H[o]? = some (vp_cell cA y')
  rw [h1, hc]
theorem oft_S0 : oft S0 = fun _ => 0 := funext fun j => by
  show S0 (5 + j % 4) (j / 4) = 0
  rcases lt4 (Nat.mod_lt j (show 0 < 4 by decide)) with e | e | e | e <;> rw [e] <;> rfl
theorem rowF_S0 : rowF S0 = fun _ => 0 := funext fun j => by
  show S0 (20 + j % 3) (j / 3) = 0
  rcases (show j % 3 = 0 ∨ j % 3 = 1 ∨ j % 3 = 2 by omega) with e | e | e <;> rw [e] <;> rfl
set_option maxHeartbeats 4000000 in
set_option maxRecDepth 100000 in
theorem c_Tm_init (l : Launch) (G : Gid) (a : Nat) : CtV l y_Tm_init b_Tm_init 1 ri G [.ref a] [(a, .inr (0, [.int 0, .int 0, .int 0, .int 0, .int 0, .int 0, .int 0, .int 0, .int 0]))] 0 0 (fun w => w = [(a, .inr (0, [.int 1, .int 1, .int 0, .int 0, .int 0, .int 0, .int 0, .int 0, .int 0]))]) := by
  refine CtV.of (own := R_Tm) (L := [some (.ref a)]) (by decide) rfl rfl (Nat.le_of_ble_eq_true rfl) rfl (fun x X hnm => ?_)
  refine j_aload_n X d_Tm_init_0 rfl ?_
  refine j_objInit X ml_Tm_1 d_Tm_init_1 (Nat.le_of_ble_eq_true rfl) (Nat.le_of_ble_eq_true rfl) rfl ?_
  refine j_aload_n X d_Tm_init_4 rfl ?_
  refine j_iconst (v := 1) X d_Tm_init_5 (by decide) ?_
  refine j_put X i_Tm t_Tm t_Tm_ok n_Tm 0 rfl rfl 0 (by decide) fl_Tm_7 rfl rfl rfl rfl (Nat.le_of_ble_eq_true rfl) d_Tm_init_6 ?_
  refine j_aload_n X d_Tm_init_9 rfl ?_
  refine j_iconst (v := 1) X d_Tm_init_10 (by decide) ?_
  refine j_put X i_Tm t_Tm t_Tm_ok n_Tm 0 rfl rfl 1 (by decide) fl_Tm_13 rfl rfl rfl rfl (Nat.le_of_ble_eq_true rfl) d_Tm_init_11 ?_
  exact j_vret X rfl d_Tm_init_14
set_option maxHeartbeats 4000000 in
set_option maxRecDepth 100000 in
theorem c_Gt_init (l : Launch) (G : Gid) (a : Nat) : CtV l y_Gt_init b_Gt_init 1 ri G [.ref a] [(a, .inr (1, [.int 0, .int 0, .int 0, .int 0, .int 0, .int 0]))] 0 0 (fun w => w = [(a, .inr (1, [.int 0, .int 1, .int 0, .int 0, .int 0, .int (-1)]))]) := by
  refine CtV.of (own := R_Gt) (L := [some (.ref a)]) (by decide) rfl rfl (Nat.le_of_ble_eq_true rfl) rfl (fun x X hnm => ?_)
  refine j_aload_n X d_Gt_init_0 rfl ?_
  refine j_objInit X ml_Gt_3 d_Gt_init_1 (Nat.le_of_ble_eq_true rfl) (Nat.le_of_ble_eq_true rfl) rfl ?_
  refine j_aload_n X d_Gt_init_4 rfl ?_
  refine j_iconst (v := 1) X d_Gt_init_5 (by decide) ?_
  refine j_put X i_Gt t_Gt t_Gt_ok n_Gt 0 rfl rfl 1 (by decide) fl_Gt_9 rfl rfl rfl rfl (Nat.le_of_ble_eq_true rfl) d_Gt_init_6 ?_
  refine j_aload_n X d_Gt_init_9 rfl ?_
  refine j_iconst (v := -1) X d_Gt_init_10 (by decide) ?_
  refine j_put X i_Gt t_Gt t_Gt_ok n_Gt 0 rfl rfl 5 (by decide) fl_Gt_15 rfl rfl rfl rfl (Nat.le_of_ble_eq_true rfl) d_Gt_init_11 ?_
  exact j_vret X rfl d_Gt_init_14
set_option maxHeartbeats 4000000 in
set_option maxRecDepth 100000 in
theorem c_Bk_init (l : Launch) (G : Gid) (a : Nat) : CtV l y_Bk_init b_Bk_init 1 rb G [.ref a] [(a, .inr (2, [.null, .null, .null, .int 0]))] 3 48 (fun w => ∃ q1 q2 q3 : Nat, w = [(a, .inr (2, [.ref q1, .ref q2, .ref q3, .int 0])), (q1, .inl (G.2 0, 16, .inl (fun _ => 0))), (q2, .inl (G.2 0, 16, .inl (fun _ => 0))), (q3, .inl (G.2 0, 16, .inl (fun _ => 0)))]) := by
  refine CtV.of (own := R_Bk) (L := [some (.ref a)]) (by decide) rfl rfl (Nat.le_of_ble_eq_true rfl) rfl (fun x X hnm => ?_)
  refine j_aload_n X d_Bk_init_0 rfl ?_
  refine j_objInit X ml_Bk_3 d_Bk_init_1 (Nat.le_of_ble_eq_true rfl) (Nat.le_of_ble_eq_true rfl) rfl ?_
  refine j_aload_n X d_Bk_init_4 rfl ?_
  refine j_bipush (v := 16) X d_Bk_init_5 (by decide) ?_
  refine j_newi X (by decide) rfl (by decide) (Nat.le_of_ble_eq_true rfl) (Nat.le_of_ble_eq_true rfl) d_Bk_init_7 (fun q1 => ?_)
  refine j_putF X i_Bk t_Bk t_Bk_ok n_Bk 0 rfl rfl 0 (by decide) fl_Bk_9 rfl hnm rfl rfl rfl rfl (Nat.le_of_ble_eq_true rfl) d_Bk_init_9 ?_
  refine j_aload_n X d_Bk_init_12 rfl ?_
  refine j_bipush (v := 16) X d_Bk_init_13 (by decide) ?_
  refine j_newi X (by decide) rfl (by decide) (Nat.le_of_ble_eq_true rfl) (Nat.le_of_ble_eq_true rfl) d_Bk_init_15 (fun q2 => ?_)
  refine j_putF X i_Bk t_Bk t_Bk_ok n_Bk 0 rfl rfl 1 (by decide) fl_Bk_15 rfl hnm rfl rfl rfl rfl (Nat.le_of_ble_eq_true rfl) d_Bk_init_17 ?_
  refine j_aload_n X d_Bk_init_20 rfl ?_
  refine j_bipush (v := 16) X d_Bk_init_21 (by decide) ?_
  refine j_newi X (by decide) rfl (by decide) (Nat.le_of_ble_eq_true rfl) (Nat.le_of_ble_eq_true rfl) d_Bk_init_23 (fun q3 => ?_)
  refine j_putF X i_Bk t_Bk t_Bk_ok n_Bk 0 rfl rfl 2 (by decide) fl_Bk_18 rfl hnm rfl rfl rfl rfl (Nat.le_of_ble_eq_true rfl) d_Bk_init_25 ?_
  exact j_vret X ⟨q1, q2, q3, rfl⟩ d_Bk_init_28
set_option maxHeartbeats 4000000 in
set_option maxRecDepth 100000 in
theorem c_TG_init (l : Launch) (G : Gid) (a : Nat) : CtV l y_TG_init b_TG_init 2 rX G [.ref a] [(a, .inr (3, [.null, .null, .null, .int 0, .int 0]))] 18 160 (fun w => ∃ ad : Nat → Nat, ad 0 = a ∧ w = wX G ad S0) := by
  refine CtV.of (own := R_TG) (L := [some (.ref a), none]) (by decide) rfl rfl (Nat.le_of_ble_eq_true rfl) rfl (fun x X hnm => ?_)
  refine j_aload_n X d_TG_init_0 rfl ?_
  refine j_objInit X ml_TG_1 d_TG_init_1 (Nat.le_of_ble_eq_true rfl) (Nat.le_of_ble_eq_true rfl) rfl ?_
  refine j_aload_n X d_TG_init_4 rfl ?_
  refine j_bipush (v := 8) X d_TG_init_5 (by decide) ?_
  refine j_newT X cl_TG_9 (by decide) rfl (by decide) (Nat.le_of_ble_eq_true rfl) (Nat.le_of_ble_eq_true rfl) d_TG_init_7 (fun ta => ?_)
  refine j_putF X i_TG t_TG t_TG_ok n_TG 0 rfl rfl 0 (by decide) fl_TG_11 rfl hnm rfl rfl rfl rfl (Nat.le_of_ble_eq_true rfl) d_TG_init_10 ?_
  refine j_eqw (ws' := [(a, .inr (3, [.ref ta, .null, .null, .int 0, .int 0])), (ta, .inl (G.2 2, 8, .inr (.inr (.inr (.inr (fun _ => none))))))]) rfl ?_
  refine j_aload_n X d_TG_init_13 rfl ?_
  refine j_iconst (v := 4) X d_TG_init_14 (by decide) ?_
  refine j_newG X cl_TG_15 (by decide) rfl (by decide) (Nat.le_of_ble_eq_true rfl) (Nat.le_of_ble_eq_true rfl) d_TG_init_15 (fun ga => ?_)
  refine j_putF X i_TG t_TG t_TG_ok n_TG 0 rfl rfl 1 (by decide) fl_TG_17 rfl hnm rfl rfl rfl rfl (Nat.le_of_ble_eq_true rfl) d_TG_init_18 ?_
  refine j_eqw (ws' := [(a, .inr (3, [.ref ta, .ref ga, .null, .int 0, .int 0])), (ta, .inl (G.2 2, 8, .inr (.inr (.inr (.inr (fun _ => none)))))), (ga, .inl (G.2 3, 4, .inr (.inr (.inr (.inr (fun _ => none))))))]) rfl ?_
  refine j_aload_n X d_TG_init_21 rfl ?_
  refine j_new (ci := 2) (fs := [.null, .null, .null, .int 0]) X i_Bk t_Bk t_Bk_ok cl_TG_21 inst_Bk ini_Bk rfl (fun j hj => by rcases (show j = 0 ∨ j = 1 ∨ j = 2 ∨ j = 3 by omega) with rfl | rfl | rfl | rfl <;> rfl) (Nat.le_of_ble_eq_true rfl) (Nat.le_of_ble_eq_true rfl) d_TG_init_22 (fun bk => ?_)
  refine j_dup X d_TG_init_25 rfl ?_
  refine j_callN X [] [.ref bk, .ref a] [(a, .inr (3, [.ref ta, .ref ga, .null, .int 0, .int 0])), (ta, .inl (G.2 2, 8, .inr (.inr (.inr (.inr (fun _ => none)))))), (ga, .inl (G.2 3, 4, .inr (.inr (.inr (.inr (fun _ => none))))))] [] (c_Bk_init _ _ bk) ok_TG_23 rfl rfl (Nat.le_of_ble_eq_true rfl) ⟨(Nat.le_of_ble_eq_true rfl), (Nat.le_of_ble_eq_true rfl)⟩ ⟨rfl, rfl⟩ rfl ⟨(Nat.le_of_ble_eq_true rfl), (Nat.le_of_ble_eq_true rfl)⟩ d_TG_init_26 (fun w1 hw => ?_)
  obtain ⟨q1, q2, q3, rfl⟩ := hw
  refine j_eqw (ws' := [(a, .inr (3, [.ref ta, .ref ga, .null, .int 0, .int 0])), (ta, .inl (G.2 2, 8, .inr (.inr (.inr (.inr (fun _ => none)))))), (ga, .inl (G.2 3, 4, .inr (.inr (.inr (.inr (fun _ => none)))))), (bk, .inr (2, [.ref q1, .ref q2, .ref q3, .int 0])), (q1, .inl (G.2 0, 16, .inl (fun _ => 0))), (q2, .inl (G.2 0, 16, .inl (fun _ => 0))), (q3, .inl (G.2 0, 16, .inl (fun _ => 0)))]) rfl ?_
  refine j_putF X i_TG t_TG t_TG_ok n_TG 0 rfl rfl 2 (by decide) fl_TG_24 rfl hnm rfl rfl rfl rfl (Nat.le_of_ble_eq_true rfl) d_TG_init_29 ?_
  refine j_eqw (ws' := [(a, .inr (3, [.ref ta, .ref ga, .ref bk, .int 0, .int 0])), (ta, .inl (G.2 2, 8, .inr (.inr (.inr (.inr (fun _ => none)))))), (ga, .inl (G.2 3, 4, .inr (.inr (.inr (.inr (fun _ => none)))))), (bk, .inr (2, [.ref q1, .ref q2, .ref q3, .int 0])), (q1, .inl (G.2 0, 16, .inl (fun _ => 0))), (q2, .inl (G.2 0, 16, .inl (fun _ => 0))), (q3, .inl (G.2 0, 16, .inl (fun _ => 0)))]) rfl ?_
  refine j_iconst (v := 0) X d_TG_init_32 (by decide) ?_
  refine j_istore_n X d_TG_init_33 (Nat.le_of_ble_eq_true rfl) ?_
  refine j_iload_n X d_TG_init_34 rfl ?_
  refine j_bipush (v := 8) X d_TG_init_35 (by decide) ?_
  refine j_icmp_ge (tgt := 59) X d_TG_init_37 (by decide) (fun h => absurd h (by decide)) (fun _ => ?_)
  refine j_aload_n X d_TG_init_40 rfl ?_
  refine j_get X i_TG 0 rfl rfl 0 (by decide) fl_TG_11 rfl d_TG_init_41 ?_
  refine j_iload_n X d_TG_init_44 rfl ?_
  refine j_new (ci := 0) (fs := [.int 0, .int 0, .int 0, .int 0, .int 0, .int 0, .int 0, .int 0, .int 0]) X i_Tm t_Tm t_Tm_ok cl_TG_9 inst_Tm ini_Tm rfl (fun j hj => by rcases (show j = 0 ∨ j = 1 ∨ j = 2 ∨ j = 3 ∨ j = 4 ∨ j = 5 ∨ j = 6 ∨ j = 7 ∨ j = 8 by omega) with rfl | rfl | rfl | rfl | rfl | rfl | rfl | rfl | rfl <;> rfl) (Nat.le_of_ble_eq_true rfl) (Nat.le_of_ble_eq_true rfl) d_TG_init_45 (fun t0 => ?_)
  refine j_dup X d_TG_init_48 rfl ?_
  refine j_callN X [] [.ref t0, .int 0, .ref ta] [(a, .inr (3, [.ref ta, .ref ga, .ref bk, .int 0, .int 0])), (ta, .inl (G.2 2, 8, .inr (.inr (.inr (.inr (fun _ => none)))))), (ga, .inl (G.2 3, 4, .inr (.inr (.inr (.inr (fun _ => none)))))), (bk, .inr (2, [.ref q1, .ref q2, .ref q3, .int 0])), (q1, .inl (G.2 0, 16, .inl (fun _ => 0))), (q2, .inl (G.2 0, 16, .inl (fun _ => 0))), (q3, .inl (G.2 0, 16, .inl (fun _ => 0)))] [] (c_Tm_init _ _ t0) ok_TG_28 rfl rfl (Nat.le_of_ble_eq_true rfl) ⟨(Nat.le_of_ble_eq_true rfl), (Nat.le_of_ble_eq_true rfl)⟩ ⟨rfl, rfl⟩ rfl ⟨(Nat.le_of_ble_eq_true rfl), (Nat.le_of_ble_eq_true rfl)⟩ d_TG_init_49 (fun w1 hw => ?_)
  subst hw
  refine j_eqw (ws' := [(a, .inr (3, [.ref ta, .ref ga, .ref bk, .int 0, .int 0])), (ta, .inl (G.2 2, 8, .inr (.inr (.inr (.inr (fun _ => none)))))), (ga, .inl (G.2 3, 4, .inr (.inr (.inr (.inr (fun _ => none)))))), (bk, .inr (2, [.ref q1, .ref q2, .ref q3, .int 0])), (q1, .inl (G.2 0, 16, .inl (fun _ => 0))), (q2, .inl (G.2 0, 16, .inl (fun _ => 0))), (q3, .inl (G.2 0, 16, .inl (fun _ => 0))), (t0, .inr (0, [.int 1, .int 1, .int 0, .int 0, .int 0, .int 0, .int 0, .int 0, .int 0]))]) rfl ?_
  refine j_aastT X 1 7 rfl rfl (vp_in_nI (n := 0) (by decide) (by decide)) d_TG_init_52 ?_
  refine j_eqw (ws' := [(a, .inr (3, [.ref ta, .ref ga, .ref bk, .int 0, .int 0])), (ta, .inl (G.2 2, 8, .inr (.inr (.inr (.inr (va_up (fun _ => none) 0 (some t0))))))), (ga, .inl (G.2 3, 4, .inr (.inr (.inr (.inr (fun _ => none)))))), (bk, .inr (2, [.ref q1, .ref q2, .ref q3, .int 0])), (q1, .inl (G.2 0, 16, .inl (fun _ => 0))), (q2, .inl (G.2 0, 16, .inl (fun _ => 0))), (q3, .inl (G.2 0, 16, .inl (fun _ => 0))), (t0, .inr (0, [.int 1, .int 1, .int 0, .int 0, .int 0, .int 0, .int 0, .int 0, .int 0]))]) rfl ?_
  refine j_iinc (v := 1) X d_TG_init_53 rfl (by decide) ?_
  refine j_goto (tgt := 34) X d_TG_init_56 (by decide) ?_
  refine j_iload_n X d_TG_init_34 rfl ?_
  refine j_bipush (v := 8) X d_TG_init_35 (by decide) ?_
  refine j_icmp_ge (tgt := 59) X d_TG_init_37 (by decide) (fun h => absurd h (by decide)) (fun _ => ?_)
  refine j_aload_n X d_TG_init_40 rfl ?_
  refine j_get X i_TG 0 rfl rfl 0 (by decide) fl_TG_11 rfl d_TG_init_41 ?_
  refine j_iload_n X d_TG_init_44 rfl ?_
  refine j_new (ci := 0) (fs := [.int 0, .int 0, .int 0, .int 0, .int 0, .int 0, .int 0, .int 0, .int 0]) X i_Tm t_Tm t_Tm_ok cl_TG_9 inst_Tm ini_Tm rfl (fun j hj => by rcases (show j = 0 ∨ j = 1 ∨ j = 2 ∨ j = 3 ∨ j = 4 ∨ j = 5 ∨ j = 6 ∨ j = 7 ∨ j = 8 by omega) with rfl | rfl | rfl | rfl | rfl | rfl | rfl | rfl | rfl <;> rfl) (Nat.le_of_ble_eq_true rfl) (Nat.le_of_ble_eq_true rfl) d_TG_init_45 (fun t1 => ?_)
  refine j_dup X d_TG_init_48 rfl ?_
  refine j_callN X [] [.ref t1, .int 1, .ref ta] [(a, .inr (3, [.ref ta, .ref ga, .ref bk, .int 0, .int 0])), (ta, .inl (G.2 2, 8, .inr (.inr (.inr (.inr (va_up (fun _ => none) 0 (some t0))))))), (ga, .inl (G.2 3, 4, .inr (.inr (.inr (.inr (fun _ => none)))))), (bk, .inr (2, [.ref q1, .ref q2, .ref q3, .int 0])), (q1, .inl (G.2 0, 16, .inl (fun _ => 0))), (q2, .inl (G.2 0, 16, .inl (fun _ => 0))), (q3, .inl (G.2 0, 16, .inl (fun _ => 0))), (t0, .inr (0, [.int 1, .int 1, .int 0, .int 0, .int 0, .int 0, .int 0, .int 0, .int 0]))] [] (c_Tm_init _ _ t1) ok_TG_28 rfl rfl (Nat.le_of_ble_eq_true rfl) ⟨(Nat.le_of_ble_eq_true rfl), (Nat.le_of_ble_eq_true rfl)⟩ ⟨rfl, rfl⟩ rfl ⟨(Nat.le_of_ble_eq_true rfl), (Nat.le_of_ble_eq_true rfl)⟩ d_TG_init_49 (fun w1 hw => ?_)
  subst hw
  refine j_eqw (ws' := [(a, .inr (3, [.ref ta, .ref ga, .ref bk, .int 0, .int 0])), (ta, .inl (G.2 2, 8, .inr (.inr (.inr (.inr (va_up (fun _ => none) 0 (some t0))))))), (ga, .inl (G.2 3, 4, .inr (.inr (.inr (.inr (fun _ => none)))))), (bk, .inr (2, [.ref q1, .ref q2, .ref q3, .int 0])), (q1, .inl (G.2 0, 16, .inl (fun _ => 0))), (q2, .inl (G.2 0, 16, .inl (fun _ => 0))), (q3, .inl (G.2 0, 16, .inl (fun _ => 0))), (t0, .inr (0, [.int 1, .int 1, .int 0, .int 0, .int 0, .int 0, .int 0, .int 0, .int 0])), (t1, .inr (0, [.int 1, .int 1, .int 0, .int 0, .int 0, .int 0, .int 0, .int 0, .int 0]))]) rfl ?_
  refine j_aastT X 1 8 rfl rfl (vp_in_nI (n := 1) (by decide) (by decide)) d_TG_init_52 ?_
  refine j_eqw (ws' := [(a, .inr (3, [.ref ta, .ref ga, .ref bk, .int 0, .int 0])), (ta, .inl (G.2 2, 8, .inr (.inr (.inr (.inr (va_up (va_up (fun _ => none) 0 (some t0)) 1 (some t1))))))), (ga, .inl (G.2 3, 4, .inr (.inr (.inr (.inr (fun _ => none)))))), (bk, .inr (2, [.ref q1, .ref q2, .ref q3, .int 0])), (q1, .inl (G.2 0, 16, .inl (fun _ => 0))), (q2, .inl (G.2 0, 16, .inl (fun _ => 0))), (q3, .inl (G.2 0, 16, .inl (fun _ => 0))), (t0, .inr (0, [.int 1, .int 1, .int 0, .int 0, .int 0, .int 0, .int 0, .int 0, .int 0])), (t1, .inr (0, [.int 1, .int 1, .int 0, .int 0, .int 0, .int 0, .int 0, .int 0, .int 0]))]) rfl ?_
  refine j_iinc (v := 2) X d_TG_init_53 rfl (by decide) ?_
  refine j_goto (tgt := 34) X d_TG_init_56 (by decide) ?_
  refine j_iload_n X d_TG_init_34 rfl ?_
  refine j_bipush (v := 8) X d_TG_init_35 (by decide) ?_
  refine j_icmp_ge (tgt := 59) X d_TG_init_37 (by decide) (fun h => absurd h (by decide)) (fun _ => ?_)
  refine j_aload_n X d_TG_init_40 rfl ?_
  refine j_get X i_TG 0 rfl rfl 0 (by decide) fl_TG_11 rfl d_TG_init_41 ?_
  refine j_iload_n X d_TG_init_44 rfl ?_
  refine j_new (ci := 0) (fs := [.int 0, .int 0, .int 0, .int 0, .int 0, .int 0, .int 0, .int 0, .int 0]) X i_Tm t_Tm t_Tm_ok cl_TG_9 inst_Tm ini_Tm rfl (fun j hj => by rcases (show j = 0 ∨ j = 1 ∨ j = 2 ∨ j = 3 ∨ j = 4 ∨ j = 5 ∨ j = 6 ∨ j = 7 ∨ j = 8 by omega) with rfl | rfl | rfl | rfl | rfl | rfl | rfl | rfl | rfl <;> rfl) (Nat.le_of_ble_eq_true rfl) (Nat.le_of_ble_eq_true rfl) d_TG_init_45 (fun t2 => ?_)
  refine j_dup X d_TG_init_48 rfl ?_
  refine j_callN X [] [.ref t2, .int 2, .ref ta] [(a, .inr (3, [.ref ta, .ref ga, .ref bk, .int 0, .int 0])), (ta, .inl (G.2 2, 8, .inr (.inr (.inr (.inr (va_up (va_up (fun _ => none) 0 (some t0)) 1 (some t1))))))), (ga, .inl (G.2 3, 4, .inr (.inr (.inr (.inr (fun _ => none)))))), (bk, .inr (2, [.ref q1, .ref q2, .ref q3, .int 0])), (q1, .inl (G.2 0, 16, .inl (fun _ => 0))), (q2, .inl (G.2 0, 16, .inl (fun _ => 0))), (q3, .inl (G.2 0, 16, .inl (fun _ => 0))), (t0, .inr (0, [.int 1, .int 1, .int 0, .int 0, .int 0, .int 0, .int 0, .int 0, .int 0])), (t1, .inr (0, [.int 1, .int 1, .int 0, .int 0, .int 0, .int 0, .int 0, .int 0, .int 0]))] [] (c_Tm_init _ _ t2) ok_TG_28 rfl rfl (Nat.le_of_ble_eq_true rfl) ⟨(Nat.le_of_ble_eq_true rfl), (Nat.le_of_ble_eq_true rfl)⟩ ⟨rfl, rfl⟩ rfl ⟨(Nat.le_of_ble_eq_true rfl), (Nat.le_of_ble_eq_true rfl)⟩ d_TG_init_49 (fun w1 hw => ?_)
  subst hw
  refine j_eqw (ws' := [(a, .inr (3, [.ref ta, .ref ga, .ref bk, .int 0, .int 0])), (ta, .inl (G.2 2, 8, .inr (.inr (.inr (.inr (va_up (va_up (fun _ => none) 0 (some t0)) 1 (some t1))))))), (ga, .inl (G.2 3, 4, .inr (.inr (.inr (.inr (fun _ => none)))))), (bk, .inr (2, [.ref q1, .ref q2, .ref q3, .int 0])), (q1, .inl (G.2 0, 16, .inl (fun _ => 0))), (q2, .inl (G.2 0, 16, .inl (fun _ => 0))), (q3, .inl (G.2 0, 16, .inl (fun _ => 0))), (t0, .inr (0, [.int 1, .int 1, .int 0, .int 0, .int 0, .int 0, .int 0, .int 0, .int 0])), (t1, .inr (0, [.int 1, .int 1, .int 0, .int 0, .int 0, .int 0, .int 0, .int 0, .int 0])), (t2, .inr (0, [.int 1, .int 1, .int 0, .int 0, .int 0, .int 0, .int 0, .int 0, .int 0]))]) rfl ?_
  refine j_aastT X 1 9 rfl rfl (vp_in_nI (n := 2) (by decide) (by decide)) d_TG_init_52 ?_
  refine j_eqw (ws' := [(a, .inr (3, [.ref ta, .ref ga, .ref bk, .int 0, .int 0])), (ta, .inl (G.2 2, 8, .inr (.inr (.inr (.inr (va_up (va_up (va_up (fun _ => none) 0 (some t0)) 1 (some t1)) 2 (some t2))))))), (ga, .inl (G.2 3, 4, .inr (.inr (.inr (.inr (fun _ => none)))))), (bk, .inr (2, [.ref q1, .ref q2, .ref q3, .int 0])), (q1, .inl (G.2 0, 16, .inl (fun _ => 0))), (q2, .inl (G.2 0, 16, .inl (fun _ => 0))), (q3, .inl (G.2 0, 16, .inl (fun _ => 0))), (t0, .inr (0, [.int 1, .int 1, .int 0, .int 0, .int 0, .int 0, .int 0, .int 0, .int 0])), (t1, .inr (0, [.int 1, .int 1, .int 0, .int 0, .int 0, .int 0, .int 0, .int 0, .int 0])), (t2, .inr (0, [.int 1, .int 1, .int 0, .int 0, .int 0, .int 0, .int 0, .int 0, .int 0]))]) rfl ?_
  refine j_iinc (v := 3) X d_TG_init_53 rfl (by decide) ?_
  refine j_goto (tgt := 34) X d_TG_init_56 (by decide) ?_
  refine j_iload_n X d_TG_init_34 rfl ?_
  refine j_bipush (v := 8) X d_TG_init_35 (by decide) ?_
  refine j_icmp_ge (tgt := 59) X d_TG_init_37 (by decide) (fun h => absurd h (by decide)) (fun _ => ?_)
  refine j_aload_n X d_TG_init_40 rfl ?_
  refine j_get X i_TG 0 rfl rfl 0 (by decide) fl_TG_11 rfl d_TG_init_41 ?_
  refine j_iload_n X d_TG_init_44 rfl ?_
  refine j_new (ci := 0) (fs := [.int 0, .int 0, .int 0, .int 0, .int 0, .int 0, .int 0, .int 0, .int 0]) X i_Tm t_Tm t_Tm_ok cl_TG_9 inst_Tm ini_Tm rfl (fun j hj => by rcases (show j = 0 ∨ j = 1 ∨ j = 2 ∨ j = 3 ∨ j = 4 ∨ j = 5 ∨ j = 6 ∨ j = 7 ∨ j = 8 by omega) with rfl | rfl | rfl | rfl | rfl | rfl | rfl | rfl | rfl <;> rfl) (Nat.le_of_ble_eq_true rfl) (Nat.le_of_ble_eq_true rfl) d_TG_init_45 (fun t3 => ?_)
  refine j_dup X d_TG_init_48 rfl ?_
  refine j_callN X [] [.ref t3, .int 3, .ref ta] [(a, .inr (3, [.ref ta, .ref ga, .ref bk, .int 0, .int 0])), (ta, .inl (G.2 2, 8, .inr (.inr (.inr (.inr (va_up (va_up (va_up (fun _ => none) 0 (some t0)) 1 (some t1)) 2 (some t2))))))), (ga, .inl (G.2 3, 4, .inr (.inr (.inr (.inr (fun _ => none)))))), (bk, .inr (2, [.ref q1, .ref q2, .ref q3, .int 0])), (q1, .inl (G.2 0, 16, .inl (fun _ => 0))), (q2, .inl (G.2 0, 16, .inl (fun _ => 0))), (q3, .inl (G.2 0, 16, .inl (fun _ => 0))), (t0, .inr (0, [.int 1, .int 1, .int 0, .int 0, .int 0, .int 0, .int 0, .int 0, .int 0])), (t1, .inr (0, [.int 1, .int 1, .int 0, .int 0, .int 0, .int 0, .int 0, .int 0, .int 0])), (t2, .inr (0, [.int 1, .int 1, .int 0, .int 0, .int 0, .int 0, .int 0, .int 0, .int 0]))] [] (c_Tm_init _ _ t3) ok_TG_28 rfl rfl (Nat.le_of_ble_eq_true rfl) ⟨(Nat.le_of_ble_eq_true rfl), (Nat.le_of_ble_eq_true rfl)⟩ ⟨rfl, rfl⟩ rfl ⟨(Nat.le_of_ble_eq_true rfl), (Nat.le_of_ble_eq_true rfl)⟩ d_TG_init_49 (fun w1 hw => ?_)
  subst hw
  refine j_eqw (ws' := [(a, .inr (3, [.ref ta, .ref ga, .ref bk, .int 0, .int 0])), (ta, .inl (G.2 2, 8, .inr (.inr (.inr (.inr (va_up (va_up (va_up (fun _ => none) 0 (some t0)) 1 (some t1)) 2 (some t2))))))), (ga, .inl (G.2 3, 4, .inr (.inr (.inr (.inr (fun _ => none)))))), (bk, .inr (2, [.ref q1, .ref q2, .ref q3, .int 0])), (q1, .inl (G.2 0, 16, .inl (fun _ => 0))), (q2, .inl (G.2 0, 16, .inl (fun _ => 0))), (q3, .inl (G.2 0, 16, .inl (fun _ => 0))), (t0, .inr (0, [.int 1, .int 1, .int 0, .int 0, .int 0, .int 0, .int 0, .int 0, .int 0])), (t1, .inr (0, [.int 1, .int 1, .int 0, .int 0, .int 0, .int 0, .int 0, .int 0, .int 0])), (t2, .inr (0, [.int 1, .int 1, .int 0, .int 0, .int 0, .int 0, .int 0, .int 0, .int 0])), (t3, .inr (0, [.int 1, .int 1, .int 0, .int 0, .int 0, .int 0, .int 0, .int 0, .int 0]))]) rfl ?_
  refine j_aastT X 1 10 rfl rfl (vp_in_nI (n := 3) (by decide) (by decide)) d_TG_init_52 ?_
  refine j_eqw (ws' := [(a, .inr (3, [.ref ta, .ref ga, .ref bk, .int 0, .int 0])), (ta, .inl (G.2 2, 8, .inr (.inr (.inr (.inr (va_up (va_up (va_up (va_up (fun _ => none) 0 (some t0)) 1 (some t1)) 2 (some t2)) 3 (some t3))))))), (ga, .inl (G.2 3, 4, .inr (.inr (.inr (.inr (fun _ => none)))))), (bk, .inr (2, [.ref q1, .ref q2, .ref q3, .int 0])), (q1, .inl (G.2 0, 16, .inl (fun _ => 0))), (q2, .inl (G.2 0, 16, .inl (fun _ => 0))), (q3, .inl (G.2 0, 16, .inl (fun _ => 0))), (t0, .inr (0, [.int 1, .int 1, .int 0, .int 0, .int 0, .int 0, .int 0, .int 0, .int 0])), (t1, .inr (0, [.int 1, .int 1, .int 0, .int 0, .int 0, .int 0, .int 0, .int 0, .int 0])), (t2, .inr (0, [.int 1, .int 1, .int 0, .int 0, .int 0, .int 0, .int 0, .int 0, .int 0])), (t3, .inr (0, [.int 1, .int 1, .int 0, .int 0, .int 0, .int 0, .int 0, .int 0, .int 0]))]) rfl ?_
  refine j_iinc (v := 4) X d_TG_init_53 rfl (by decide) ?_
  refine j_goto (tgt := 34) X d_TG_init_56 (by decide) ?_
  refine j_iload_n X d_TG_init_34 rfl ?_
  refine j_bipush (v := 8) X d_TG_init_35 (by decide) ?_
  refine j_icmp_ge (tgt := 59) X d_TG_init_37 (by decide) (fun h => absurd h (by decide)) (fun _ => ?_)
  refine j_aload_n X d_TG_init_40 rfl ?_
  refine j_get X i_TG 0 rfl rfl 0 (by decide) fl_TG_11 rfl d_TG_init_41 ?_
  refine j_iload_n X d_TG_init_44 rfl ?_
  refine j_new (ci := 0) (fs := [.int 0, .int 0, .int 0, .int 0, .int 0, .int 0, .int 0, .int 0, .int 0]) X i_Tm t_Tm t_Tm_ok cl_TG_9 inst_Tm ini_Tm rfl (fun j hj => by rcases (show j = 0 ∨ j = 1 ∨ j = 2 ∨ j = 3 ∨ j = 4 ∨ j = 5 ∨ j = 6 ∨ j = 7 ∨ j = 8 by omega) with rfl | rfl | rfl | rfl | rfl | rfl | rfl | rfl | rfl <;> rfl) (Nat.le_of_ble_eq_true rfl) (Nat.le_of_ble_eq_true rfl) d_TG_init_45 (fun t4 => ?_)
  refine j_dup X d_TG_init_48 rfl ?_
  refine j_callN X [] [.ref t4, .int 4, .ref ta] [(a, .inr (3, [.ref ta, .ref ga, .ref bk, .int 0, .int 0])), (ta, .inl (G.2 2, 8, .inr (.inr (.inr (.inr (va_up (va_up (va_up (va_up (fun _ => none) 0 (some t0)) 1 (some t1)) 2 (some t2)) 3 (some t3))))))), (ga, .inl (G.2 3, 4, .inr (.inr (.inr (.inr (fun _ => none)))))), (bk, .inr (2, [.ref q1, .ref q2, .ref q3, .int 0])), (q1, .inl (G.2 0, 16, .inl (fun _ => 0))), (q2, .inl (G.2 0, 16, .inl (fun _ => 0))), (q3, .inl (G.2 0, 16, .inl (fun _ => 0))), (t0, .inr (0, [.int 1, .int 1, .int 0, .int 0, .int 0, .int 0, .int 0, .int 0, .int 0])), (t1, .inr (0, [.int 1, .int 1, .int 0, .int 0, .int 0, .int 0, .int 0, .int 0, .int 0])), (t2, .inr (0, [.int 1, .int 1, .int 0, .int 0, .int 0, .int 0, .int 0, .int 0, .int 0])), (t3, .inr (0, [.int 1, .int 1, .int 0, .int 0, .int 0, .int 0, .int 0, .int 0, .int 0]))] [] (c_Tm_init _ _ t4) ok_TG_28 rfl rfl (Nat.le_of_ble_eq_true rfl) ⟨(Nat.le_of_ble_eq_true rfl), (Nat.le_of_ble_eq_true rfl)⟩ ⟨rfl, rfl⟩ rfl ⟨(Nat.le_of_ble_eq_true rfl), (Nat.le_of_ble_eq_true rfl)⟩ d_TG_init_49 (fun w1 hw => ?_)
  subst hw
  refine j_eqw (ws' := [(a, .inr (3, [.ref ta, .ref ga, .ref bk, .int 0, .int 0])), (ta, .inl (G.2 2, 8, .inr (.inr (.inr (.inr (va_up (va_up (va_up (va_up (fun _ => none) 0 (some t0)) 1 (some t1)) 2 (some t2)) 3 (some t3))))))), (ga, .inl (G.2 3, 4, .inr (.inr (.inr (.inr (fun _ => none)))))), (bk, .inr (2, [.ref q1, .ref q2, .ref q3, .int 0])), (q1, .inl (G.2 0, 16, .inl (fun _ => 0))), (q2, .inl (G.2 0, 16, .inl (fun _ => 0))), (q3, .inl (G.2 0, 16, .inl (fun _ => 0))), (t0, .inr (0, [.int 1, .int 1, .int 0, .int 0, .int 0, .int 0, .int 0, .int 0, .int 0])), (t1, .inr (0, [.int 1, .int 1, .int 0, .int 0, .int 0, .int 0, .int 0, .int 0, .int 0])), (t2, .inr (0, [.int 1, .int 1, .int 0, .int 0, .int 0, .int 0, .int 0, .int 0, .int 0])), (t3, .inr (0, [.int 1, .int 1, .int 0, .int 0, .int 0, .int 0, .int 0, .int 0, .int 0])), (t4, .inr (0, [.int 1, .int 1, .int 0, .int 0, .int 0, .int 0, .int 0, .int 0, .int 0]))]) rfl ?_
  refine j_aastT X 1 11 rfl rfl (vp_in_nI (n := 4) (by decide) (by decide)) d_TG_init_52 ?_
  refine j_eqw (ws' := [(a, .inr (3, [.ref ta, .ref ga, .ref bk, .int 0, .int 0])), (ta, .inl (G.2 2, 8, .inr (.inr (.inr (.inr (va_up (va_up (va_up (va_up (va_up (fun _ => none) 0 (some t0)) 1 (some t1)) 2 (some t2)) 3 (some t3)) 4 (some t4))))))), (ga, .inl (G.2 3, 4, .inr (.inr (.inr (.inr (fun _ => none)))))), (bk, .inr (2, [.ref q1, .ref q2, .ref q3, .int 0])), (q1, .inl (G.2 0, 16, .inl (fun _ => 0))), (q2, .inl (G.2 0, 16, .inl (fun _ => 0))), (q3, .inl (G.2 0, 16, .inl (fun _ => 0))), (t0, .inr (0, [.int 1, .int 1, .int 0, .int 0, .int 0, .int 0, .int 0, .int 0, .int 0])), (t1, .inr (0, [.int 1, .int 1, .int 0, .int 0, .int 0, .int 0, .int 0, .int 0, .int 0])), (t2, .inr (0, [.int 1, .int 1, .int 0, .int 0, .int 0, .int 0, .int 0, .int 0, .int 0])), (t3, .inr (0, [.int 1, .int 1, .int 0, .int 0, .int 0, .int 0, .int 0, .int 0, .int 0])), (t4, .inr (0, [.int 1, .int 1, .int 0, .int 0, .int 0, .int 0, .int 0, .int 0, .int 0]))]) rfl ?_
  refine j_iinc (v := 5) X d_TG_init_53 rfl (by decide) ?_
  refine j_goto (tgt := 34) X d_TG_init_56 (by decide) ?_
  refine j_iload_n X d_TG_init_34 rfl ?_
  refine j_bipush (v := 8) X d_TG_init_35 (by decide) ?_
  refine j_icmp_ge (tgt := 59) X d_TG_init_37 (by decide) (fun h => absurd h (by decide)) (fun _ => ?_)
  refine j_aload_n X d_TG_init_40 rfl ?_
  refine j_get X i_TG 0 rfl rfl 0 (by decide) fl_TG_11 rfl d_TG_init_41 ?_
  refine j_iload_n X d_TG_init_44 rfl ?_
  refine j_new (ci := 0) (fs := [.int 0, .int 0, .int 0, .int 0, .int 0, .int 0, .int 0, .int 0, .int 0]) X i_Tm t_Tm t_Tm_ok cl_TG_9 inst_Tm ini_Tm rfl (fun j hj => by rcases (show j = 0 ∨ j = 1 ∨ j = 2 ∨ j = 3 ∨ j = 4 ∨ j = 5 ∨ j = 6 ∨ j = 7 ∨ j = 8 by omega) with rfl | rfl | rfl | rfl | rfl | rfl | rfl | rfl | rfl <;> rfl) (Nat.le_of_ble_eq_true rfl) (Nat.le_of_ble_eq_true rfl) d_TG_init_45 (fun t5 => ?_)
  refine j_dup X d_TG_init_48 rfl ?_
  refine j_callN X [] [.ref t5, .int 5, .ref ta] [(a, .inr (3, [.ref ta, .ref ga, .ref bk, .int 0, .int 0])), (ta, .inl (G.2 2, 8, .inr (.inr (.inr (.inr (va_up (va_up (va_up (va_up (va_up (fun _ => none) 0 (some t0)) 1 (some t1)) 2 (some t2)) 3 (some t3)) 4 (some t4))))))), (ga, .inl (G.2 3, 4, .inr (.inr (.inr (.inr (fun _ => none)))))), (bk, .inr (2, [.ref q1, .ref q2, .ref q3, .int 0])), (q1, .inl (G.2 0, 16, .inl (fun _ => 0))), (q2, .inl (G.2 0, 16, .inl (fun _ => 0))), (q3, .inl (G.2 0, 16, .inl (fun _ => 0))), (t0, .inr (0, [.int 1, .int 1, .int 0, .int 0, .int 0, .int 0, .int 0, .int 0, .int 0])), (t1, .inr (0, [.int 1, .int 1, .int 0, .int 0, .int 0, .int 0, .int 0, .int 0, .int 0])), (t2, .inr (0, [.int 1, .int 1, .int 0, .int 0, .int 0, .int 0, .int 0, .int 0, .int 0])), (t3, .inr (0, [.int 1, .int 1, .int 0, .int 0, .int 0, .int 0, .int 0, .int 0, .int 0])), (t4, .inr (0, [.int 1, .int 1, .int 0, .int 0, .int 0, .int 0, .int 0, .int 0, .int 0]))] [] (c_Tm_init _ _ t5) ok_TG_28 rfl rfl (Nat.le_of_ble_eq_true rfl) ⟨(Nat.le_of_ble_eq_true rfl), (Nat.le_of_ble_eq_true rfl)⟩ ⟨rfl, rfl⟩ rfl ⟨(Nat.le_of_ble_eq_true rfl), (Nat.le_of_ble_eq_true rfl)⟩ d_TG_init_49 (fun w1 hw => ?_)
  subst hw
  refine j_eqw (ws' := [(a, .inr (3, [.ref ta, .ref ga, .ref bk, .int 0, .int 0])), (ta, .inl (G.2 2, 8, .inr (.inr (.inr (.inr (va_up (va_up (va_up (va_up (va_up (fun _ => none) 0 (some t0)) 1 (some t1)) 2 (some t2)) 3 (some t3)) 4 (some t4))))))), (ga, .inl (G.2 3, 4, .inr (.inr (.inr (.inr (fun _ => none)))))), (bk, .inr (2, [.ref q1, .ref q2, .ref q3, .int 0])), (q1, .inl (G.2 0, 16, .inl (fun _ => 0))), (q2, .inl (G.2 0, 16, .inl (fun _ => 0))), (q3, .inl (G.2 0, 16, .inl (fun _ => 0))), (t0, .inr (0, [.int 1, .int 1, .int 0, .int 0, .int 0, .int 0, .int 0, .int 0, .int 0])), (t1, .inr (0, [.int 1, .int 1, .int 0, .int 0, .int 0, .int 0, .int 0, .int 0, .int 0])), (t2, .inr (0, [.int 1, .int 1, .int 0, .int 0, .int 0, .int 0, .int 0, .int 0, .int 0])), (t3, .inr (0, [.int 1, .int 1, .int 0, .int 0, .int 0, .int 0, .int 0, .int 0, .int 0])), (t4, .inr (0, [.int 1, .int 1, .int 0, .int 0, .int 0, .int 0, .int 0, .int 0, .int 0])), (t5, .inr (0, [.int 1, .int 1, .int 0, .int 0, .int 0, .int 0, .int 0, .int 0, .int 0]))]) rfl ?_
  refine j_aastT X 1 12 rfl rfl (vp_in_nI (n := 5) (by decide) (by decide)) d_TG_init_52 ?_
  refine j_eqw (ws' := [(a, .inr (3, [.ref ta, .ref ga, .ref bk, .int 0, .int 0])), (ta, .inl (G.2 2, 8, .inr (.inr (.inr (.inr (va_up (va_up (va_up (va_up (va_up (va_up (fun _ => none) 0 (some t0)) 1 (some t1)) 2 (some t2)) 3 (some t3)) 4 (some t4)) 5 (some t5))))))), (ga, .inl (G.2 3, 4, .inr (.inr (.inr (.inr (fun _ => none)))))), (bk, .inr (2, [.ref q1, .ref q2, .ref q3, .int 0])), (q1, .inl (G.2 0, 16, .inl (fun _ => 0))), (q2, .inl (G.2 0, 16, .inl (fun _ => 0))), (q3, .inl (G.2 0, 16, .inl (fun _ => 0))), (t0, .inr (0, [.int 1, .int 1, .int 0, .int 0, .int 0, .int 0, .int 0, .int 0, .int 0])), (t1, .inr (0, [.int 1, .int 1, .int 0, .int 0, .int 0, .int 0, .int 0, .int 0, .int 0])), (t2, .inr (0, [.int 1, .int 1, .int 0, .int 0, .int 0, .int 0, .int 0, .int 0, .int 0])), (t3, .inr (0, [.int 1, .int 1, .int 0, .int 0, .int 0, .int 0, .int 0, .int 0, .int 0])), (t4, .inr (0, [.int 1, .int 1, .int 0, .int 0, .int 0, .int 0, .int 0, .int 0, .int 0])), (t5, .inr (0, [.int 1, .int 1, .int 0, .int 0, .int 0, .int 0, .int 0, .int 0, .int 0]))]) rfl ?_
  refine j_iinc (v := 6) X d_TG_init_53 rfl (by decide) ?_
  refine j_goto (tgt := 34) X d_TG_init_56 (by decide) ?_
  refine j_iload_n X d_TG_init_34 rfl ?_
  refine j_bipush (v := 8) X d_TG_init_35 (by decide) ?_
  refine j_icmp_ge (tgt := 59) X d_TG_init_37 (by decide) (fun h => absurd h (by decide)) (fun _ => ?_)
  refine j_aload_n X d_TG_init_40 rfl ?_
  refine j_get X i_TG 0 rfl rfl 0 (by decide) fl_TG_11 rfl d_TG_init_41 ?_
  refine j_iload_n X d_TG_init_44 rfl ?_
  refine j_new (ci := 0) (fs := [.int 0, .int 0, .int 0, .int 0, .int 0, .int 0, .int 0, .int 0, .int 0]) X i_Tm t_Tm t_Tm_ok cl_TG_9 inst_Tm ini_Tm rfl (fun j hj => by rcases (show j = 0 ∨ j = 1 ∨ j = 2 ∨ j = 3 ∨ j = 4 ∨ j = 5 ∨ j = 6 ∨ j = 7 ∨ j = 8 by omega) with rfl | rfl | rfl | rfl | rfl | rfl | rfl | rfl | rfl <;> rfl) (Nat.le_of_ble_eq_true rfl) (Nat.le_of_ble_eq_true rfl) d_TG_init_45 (fun t6 => ?_)
  refine j_dup X d_TG_init_48 rfl ?_
  refine j_callN X [] [.ref t6, .int 6, .ref ta] [(a, .inr (3, [.ref ta, .ref ga, .ref bk, .int 0, .int 0])), (ta, .inl (G.2 2, 8, .inr (.inr (.inr (.inr (va_up (va_up (va_up (va_up (va_up (va_up (fun _ => none) 0 (some t0)) 1 (some t1)) 2 (some t2)) 3 (some t3)) 4 (some t4)) 5 (some t5))))))), (ga, .inl (G.2 3, 4, .inr (.inr (.inr (.inr (fun _ => none)))))), (bk, .inr (2, [.ref q1, .ref q2, .ref q3, .int 0])), (q1, .inl (G.2 0, 16, .inl (fun _ => 0))), (q2, .inl (G.2 0, 16, .inl (fun _ => 0))), (q3, .inl (G.2 0, 16, .inl (fun _ => 0))), (t0, .inr (0, [.int 1, .int 1, .int 0, .int 0, .int 0, .int 0, .int 0, .int 0, .int 0])), (t1, .inr (0, [.int 1, .int 1, .int 0, .int 0, .int 0, .int 0, .int 0, .int 0, .int 0])), (t2, .inr (0, [.int 1, .int 1, .int 0, .int 0, .int 0, .int 0, .int 0, .int 0, .int 0])), (t3, .inr (0, [.int 1, .int 1, .int 0, .int 0, .int 0, .int 0, .int 0, .int 0, .int 0])), (t4, .inr (0, [.int 1, .int 1, .int 0, .int 0, .int 0, .int 0, .int 0, .int 0, .int 0])), (t5, .inr (0, [.int 1, .int 1, .int 0, .int 0, .int 0, .int 0, .int 0, .int 0, .int 0]))] [] (c_Tm_init _ _ t6) ok_TG_28 rfl rfl (Nat.le_of_ble_eq_true rfl) ⟨(Nat.le_of_ble_eq_true rfl), (Nat.le_of_ble_eq_true rfl)⟩ ⟨rfl, rfl⟩ rfl ⟨(Nat.le_of_ble_eq_true rfl), (Nat.le_of_ble_eq_true rfl)⟩ d_TG_init_49 (fun w1 hw => ?_)
  subst hw
  refine j_eqw (ws' := [(a, .inr (3, [.ref ta, .ref ga, .ref bk, .int 0, .int 0])), (ta, .inl (G.2 2, 8, .inr (.inr (.inr (.inr (va_up (va_up (va_up (va_up (va_up (va_up (fun _ => none) 0 (some t0)) 1 (some t1)) 2 (some t2)) 3 (some t3)) 4 (some t4)) 5 (some t5))))))), (ga, .inl (G.2 3, 4, .inr (.inr (.inr (.inr (fun _ => none)))))), (bk, .inr (2, [.ref q1, .ref q2, .ref q3, .int 0])), (q1, .inl (G.2 0, 16, .inl (fun _ => 0))), (q2, .inl (G.2 0, 16, .inl (fun _ => 0))), (q3, .inl (G.2 0, 16, .inl (fun _ => 0))), (t0, .inr (0, [.int 1, .int 1, .int 0, .int 0, .int 0, .int 0, .int 0, .int 0, .int 0])), (t1, .inr (0, [.int 1, .int 1, .int 0, .int 0, .int 0, .int 0, .int 0, .int 0, .int 0])), (t2, .inr (0, [.int 1, .int 1, .int 0, .int 0, .int 0, .int 0, .int 0, .int 0, .int 0])), (t3, .inr (0, [.int 1, .int 1, .int 0, .int 0, .int 0, .int 0, .int 0, .int 0, .int 0])), (t4, .inr (0, [.int 1, .int 1, .int 0, .int 0, .int 0, .int 0, .int 0, .int 0, .int 0])), (t5, .inr (0, [.int 1, .int 1, .int 0, .int 0, .int 0, .int 0, .int 0, .int 0, .int 0])), (t6, .inr (0, [.int 1, .int 1, .int 0, .int 0, .int 0, .int 0, .int 0, .int 0, .int 0]))]) rfl ?_
  refine j_aastT X 1 13 rfl rfl (vp_in_nI (n := 6) (by decide) (by decide)) d_TG_init_52 ?_
  refine j_eqw (ws' := [(a, .inr (3, [.ref ta, .ref ga, .ref bk, .int 0, .int 0])), (ta, .inl (G.2 2, 8, .inr (.inr (.inr (.inr (va_up (va_up (va_up (va_up (va_up (va_up (va_up (fun _ => none) 0 (some t0)) 1 (some t1)) 2 (some t2)) 3 (some t3)) 4 (some t4)) 5 (some t5)) 6 (some t6))))))), (ga, .inl (G.2 3, 4, .inr (.inr (.inr (.inr (fun _ => none)))))), (bk, .inr (2, [.ref q1, .ref q2, .ref q3, .int 0])), (q1, .inl (G.2 0, 16, .inl (fun _ => 0))), (q2, .inl (G.2 0, 16, .inl (fun _ => 0))), (q3, .inl (G.2 0, 16, .inl (fun _ => 0))), (t0, .inr (0, [.int 1, .int 1, .int 0, .int 0, .int 0, .int 0, .int 0, .int 0, .int 0])), (t1, .inr (0, [.int 1, .int 1, .int 0, .int 0, .int 0, .int 0, .int 0, .int 0, .int 0])), (t2, .inr (0, [.int 1, .int 1, .int 0, .int 0, .int 0, .int 0, .int 0, .int 0, .int 0])), (t3, .inr (0, [.int 1, .int 1, .int 0, .int 0, .int 0, .int 0, .int 0, .int 0, .int 0])), (t4, .inr (0, [.int 1, .int 1, .int 0, .int 0, .int 0, .int 0, .int 0, .int 0, .int 0])), (t5, .inr (0, [.int 1, .int 1, .int 0, .int 0, .int 0, .int 0, .int 0, .int 0, .int 0])), (t6, .inr (0, [.int 1, .int 1, .int 0, .int 0, .int 0, .int 0, .int 0, .int 0, .int 0]))]) rfl ?_
  refine j_iinc (v := 7) X d_TG_init_53 rfl (by decide) ?_
  refine j_goto (tgt := 34) X d_TG_init_56 (by decide) ?_
  refine j_iload_n X d_TG_init_34 rfl ?_
  refine j_bipush (v := 8) X d_TG_init_35 (by decide) ?_
  refine j_icmp_ge (tgt := 59) X d_TG_init_37 (by decide) (fun h => absurd h (by decide)) (fun _ => ?_)
  refine j_aload_n X d_TG_init_40 rfl ?_
  refine j_get X i_TG 0 rfl rfl 0 (by decide) fl_TG_11 rfl d_TG_init_41 ?_
  refine j_iload_n X d_TG_init_44 rfl ?_
  refine j_new (ci := 0) (fs := [.int 0, .int 0, .int 0, .int 0, .int 0, .int 0, .int 0, .int 0, .int 0]) X i_Tm t_Tm t_Tm_ok cl_TG_9 inst_Tm ini_Tm rfl (fun j hj => by rcases (show j = 0 ∨ j = 1 ∨ j = 2 ∨ j = 3 ∨ j = 4 ∨ j = 5 ∨ j = 6 ∨ j = 7 ∨ j = 8 by omega) with rfl | rfl | rfl | rfl | rfl | rfl | rfl | rfl | rfl <;> rfl) (Nat.le_of_ble_eq_true rfl) (Nat.le_of_ble_eq_true rfl) d_TG_init_45 (fun t7 => ?_)
  refine j_dup X d_TG_init_48 rfl ?_
  refine j_callN X [] [.ref t7, .int 7, .ref ta] [(a, .inr (3, [.ref ta, .ref ga, .ref bk, .int 0, .int 0])), (ta, .inl (G.2 2, 8, .inr (.inr (.inr (.inr (va_up (va_up (va_up (va_up (va_up (va_up (va_up (fun _ => none) 0 (some t0)) 1 (some t1)) 2 (some t2)) 3 (some t3)) 4 (some t4)) 5 (some t5)) 6 (some t6))))))), (ga, .inl (G.2 3, 4, .inr (.inr (.inr (.inr (fun _ => none)))))), (bk, .inr (2, [.ref q1, .ref q2, .ref q3, .int 0])), (q1, .inl (G.2 0, 16, .inl (fun _ => 0))), (q2, .inl (G.2 0, 16, .inl (fun _ => 0))), (q3, .inl (G.2 0, 16, .inl (fun _ => 0))), (t0, .inr (0, [.int 1, .int 1, .int 0, .int 0, .int 0, .int 0, .int 0, .int 0, .int 0])), (t1, .inr (0, [.int 1, .int 1, .int 0, .int 0, .int 0, .int 0, .int 0, .int 0, .int 0])), (t2, .inr (0, [.int 1, .int 1, .int 0, .int 0, .int 0, .int 0, .int 0, .int 0, .int 0])), (t3, .inr (0, [.int 1, .int 1, .int 0, .int 0, .int 0, .int 0, .int 0, .int 0, .int 0])), (t4, .inr (0, [.int 1, .int 1, .int 0, .int 0, .int 0, .int 0, .int 0, .int 0, .int 0])), (t5, .inr (0, [.int 1, .int 1, .int 0, .int 0, .int 0, .int 0, .int 0, .int 0, .int 0])), (t6, .inr (0, [.int 1, .int 1, .int 0, .int 0, .int 0, .int 0, .int 0, .int 0, .int 0]))] [] (c_Tm_init _ _ t7) ok_TG_28 rfl rfl (Nat.le_of_ble_eq_true rfl) ⟨(Nat.le_of_ble_eq_true rfl), (Nat.le_of_ble_eq_true rfl)⟩ ⟨rfl, rfl⟩ rfl ⟨(Nat.le_of_ble_eq_true rfl), (Nat.le_of_ble_eq_true rfl)⟩ d_TG_init_49 (fun w1 hw => ?_)
  subst hw
  refine j_eqw (ws' := [(a, .inr (3, [.ref ta, .ref ga, .ref bk, .int 0, .int 0])), (ta, .inl (G.2 2, 8, .inr (.inr (.inr (.inr (va_up (va_up (va_up (va_up (va_up (va_up (va_up (fun _ => none) 0 (some t0)) 1 (some t1)) 2 (some t2)) 3 (some t3)) 4 (some t4)) 5 (some t5)) 6 (some t6))))))), (ga, .inl (G.2 3, 4, .inr (.inr (.inr (.inr (fun _ => none)))))), (bk, .inr (2, [.ref q1, .ref q2, .ref q3, .int 0])), (q1, .inl (G.2 0, 16, .inl (fun _ => 0))), (q2, .inl (G.2 0, 16, .inl (fun _ => 0))), (q3, .inl (G.2 0, 16, .inl (fun _ => 0))), (t0, .inr (0, [.int 1, .int 1, .int 0, .int 0, .int 0, .int 0, .int 0, .int 0, .int 0])), (t1, .inr (0, [.int 1, .int 1, .int 0, .int 0, .int 0, .int 0, .int 0, .int 0, .int 0])), (t2, .inr (0, [.int 1, .int 1, .int 0, .int 0, .int 0, .int 0, .int 0, .int 0, .int 0])), (t3, .inr (0, [.int 1, .int 1, .int 0, .int 0, .int 0, .int 0, .int 0, .int 0, .int 0])), (t4, .inr (0, [.int 1, .int 1, .int 0, .int 0, .int 0, .int 0, .int 0, .int 0, .int 0])), (t5, .inr (0, [.int 1, .int 1, .int 0, .int 0, .int 0, .int 0, .int 0, .int 0, .int 0])), (t6, .inr (0, [.int 1, .int 1, .int 0, .int 0, .int 0, .int 0, .int 0, .int 0, .int 0])), (t7, .inr (0, [.int 1, .int 1, .int 0, .int 0, .int 0, .int 0, .int 0, .int 0, .int 0]))]) rfl ?_
  refine j_aastT X 1 14 rfl rfl (vp_in_nI (n := 7) (by decide) (by decide)) d_TG_init_52 ?_
  refine j_eqw (ws' := [(a, .inr (3, [.ref ta, .ref ga, .ref bk, .int 0, .int 0])), (ta, .inl (G.2 2, 8, .inr (.inr (.inr (.inr (va_up (va_up (va_up (va_up (va_up (va_up (va_up (va_up (fun _ => none) 0 (some t0)) 1 (some t1)) 2 (some t2)) 3 (some t3)) 4 (some t4)) 5 (some t5)) 6 (some t6)) 7 (some t7))))))), (ga, .inl (G.2 3, 4, .inr (.inr (.inr (.inr (fun _ => none)))))), (bk, .inr (2, [.ref q1, .ref q2, .ref q3, .int 0])), (q1, .inl (G.2 0, 16, .inl (fun _ => 0))), (q2, .inl (G.2 0, 16, .inl (fun _ => 0))), (q3, .inl (G.2 0, 16, .inl (fun _ => 0))), (t0, .inr (0, [.int 1, .int 1, .int 0, .int 0, .int 0, .int 0, .int 0, .int 0, .int 0])), (t1, .inr (0, [.int 1, .int 1, .int 0, .int 0, .int 0, .int 0, .int 0, .int 0, .int 0])), (t2, .inr (0, [.int 1, .int 1, .int 0, .int 0, .int 0, .int 0, .int 0, .int 0, .int 0])), (t3, .inr (0, [.int 1, .int 1, .int 0, .int 0, .int 0, .int 0, .int 0, .int 0, .int 0])), (t4, .inr (0, [.int 1, .int 1, .int 0, .int 0, .int 0, .int 0, .int 0, .int 0, .int 0])), (t5, .inr (0, [.int 1, .int 1, .int 0, .int 0, .int 0, .int 0, .int 0, .int 0, .int 0])), (t6, .inr (0, [.int 1, .int 1, .int 0, .int 0, .int 0, .int 0, .int 0, .int 0, .int 0])), (t7, .inr (0, [.int 1, .int 1, .int 0, .int 0, .int 0, .int 0, .int 0, .int 0, .int 0]))]) rfl ?_
  refine j_iinc (v := 8) X d_TG_init_53 rfl (by decide) ?_
  refine j_goto (tgt := 34) X d_TG_init_56 (by decide) ?_
  refine j_iload_n X d_TG_init_34 rfl ?_
  refine j_bipush (v := 8) X d_TG_init_35 (by decide) ?_
  refine j_icmp_ge (tgt := 59) X d_TG_init_37 (by decide) (fun _ => ?_) (fun h => absurd (by decide) h)
  refine j_iconst (v := 0) X d_TG_init_59 (by decide) ?_
  refine j_istore_n X d_TG_init_60 (Nat.le_of_ble_eq_true rfl) ?_
  refine j_iload_n X d_TG_init_61 rfl ?_
  refine j_iconst (v := 4) X d_TG_init_62 (by decide) ?_
  refine j_icmp_ge (tgt := 85) X d_TG_init_63 (by decide) (fun h => absurd h (by decide)) (fun _ => ?_)
  refine j_aload_n X d_TG_init_66 rfl ?_
  refine j_get X i_TG 0 rfl rfl 1 (by decide) fl_TG_17 rfl d_TG_init_67 ?_
  refine j_iload_n X d_TG_init_70 rfl ?_
  refine j_new (ci := 1) (fs := [.int 0, .int 0, .int 0, .int 0, .int 0, .int 0]) X i_Gt t_Gt t_Gt_ok cl_TG_15 inst_Gt ini_Gt rfl (fun j hj => by rcases (show j = 0 ∨ j = 1 ∨ j = 2 ∨ j = 3 ∨ j = 4 ∨ j = 5 by omega) with rfl | rfl | rfl | rfl | rfl | rfl <;> rfl) (Nat.le_of_ble_eq_true rfl) (Nat.le_of_ble_eq_true rfl) d_TG_init_71 (fun g0 => ?_)
  refine j_dup X d_TG_init_74 rfl ?_
  refine j_callN X [] [.ref g0, .int 0, .ref ga] [(a, .inr (3, [.ref ta, .ref ga, .ref bk, .int 0, .int 0])), (ta, .inl (G.2 2, 8, .inr (.inr (.inr (.inr (va_up (va_up (va_up (va_up (va_up (va_up (va_up (va_up (fun _ => none) 0 (some t0)) 1 (some t1)) 2 (some t2)) 3 (some t3)) 4 (some t4)) 5 (some t5)) 6 (some t6)) 7 (some t7))))))), (ga, .inl (G.2 3, 4, .inr (.inr (.inr (.inr (fun _ => none)))))), (bk, .inr (2, [.ref q1, .ref q2, .ref q3, .int 0])), (q1, .inl (G.2 0, 16, .inl (fun _ => 0))), (q2, .inl (G.2 0, 16, .inl (fun _ => 0))), (q3, .inl (G.2 0, 16, .inl (fun _ => 0))), (t0, .inr (0, [.int 1, .int 1, .int 0, .int 0, .int 0, .int 0, .int 0, .int 0, .int 0])), (t1, .inr (0, [.int 1, .int 1, .int 0, .int 0, .int 0, .int 0, .int 0, .int 0, .int 0])), (t2, .inr (0, [.int 1, .int 1, .int 0, .int 0, .int 0, .int 0, .int 0, .int 0, .int 0])), (t3, .inr (0, [.int 1, .int 1, .int 0, .int 0, .int 0, .int 0, .int 0, .int 0, .int 0])), (t4, .inr (0, [.int 1, .int 1, .int 0, .int 0, .int 0, .int 0, .int 0, .int 0, .int 0])), (t5, .inr (0, [.int 1, .int 1, .int 0, .int 0, .int 0, .int 0, .int 0, .int 0, .int 0])), (t6, .inr (0, [.int 1, .int 1, .int 0, .int 0, .int 0, .int 0, .int 0, .int 0, .int 0])), (t7, .inr (0, [.int 1, .int 1, .int 0, .int 0, .int 0, .int 0, .int 0, .int 0, .int 0]))] [] (c_Gt_init _ _ g0) ok_TG_29 rfl rfl (Nat.le_of_ble_eq_true rfl) ⟨(Nat.le_of_ble_eq_true rfl), (Nat.le_of_ble_eq_true rfl)⟩ ⟨rfl, rfl⟩ rfl ⟨(Nat.le_of_ble_eq_true rfl), (Nat.le_of_ble_eq_true rfl)⟩ d_TG_init_75 (fun w1 hw => ?_)
  subst hw
  refine j_eqw (ws' := [(a, .inr (3, [.ref ta, .ref ga, .ref bk, .int 0, .int 0])), (ta, .inl (G.2 2, 8, .inr (.inr (.inr (.inr (va_up (va_up (va_up (va_up (va_up (va_up (va_up (va_up (fun _ => none) 0 (some t0)) 1 (some t1)) 2 (some t2)) 3 (some t3)) 4 (some t4)) 5 (some t5)) 6 (some t6)) 7 (some t7))))))), (ga, .inl (G.2 3, 4, .inr (.inr (.inr (.inr (fun _ => none)))))), (bk, .inr (2, [.ref q1, .ref q2, .ref q3, .int 0])), (q1, .inl (G.2 0, 16, .inl (fun _ => 0))), (q2, .inl (G.2 0, 16, .inl (fun _ => 0))), (q3, .inl (G.2 0, 16, .inl (fun _ => 0))), (t0, .inr (0, [.int 1, .int 1, .int 0, .int 0, .int 0, .int 0, .int 0, .int 0, .int 0])), (t1, .inr (0, [.int 1, .int 1, .int 0, .int 0, .int 0, .int 0, .int 0, .int 0, .int 0])), (t2, .inr (0, [.int 1, .int 1, .int 0, .int 0, .int 0, .int 0, .int 0, .int 0, .int 0])), (t3, .inr (0, [.int 1, .int 1, .int 0, .int 0, .int 0, .int 0, .int 0, .int 0, .int 0])), (t4, .inr (0, [.int 1, .int 1, .int 0, .int 0, .int 0, .int 0, .int 0, .int 0, .int 0])), (t5, .inr (0, [.int 1, .int 1, .int 0, .int 0, .int 0, .int 0, .int 0, .int 0, .int 0])), (t6, .inr (0, [.int 1, .int 1, .int 0, .int 0, .int 0, .int 0, .int 0, .int 0, .int 0])), (t7, .inr (0, [.int 1, .int 1, .int 0, .int 0, .int 0, .int 0, .int 0, .int 0, .int 0])), (g0, .inr (1, [.int 0, .int 1, .int 0, .int 0, .int 0, .int (-1)]))]) rfl ?_
  refine j_aastG X 2 15 rfl rfl (vp_in_nI (n := 0) (by decide) (by decide)) d_TG_init_78 ?_
  refine j_eqw (ws' := [(a, .inr (3, [.ref ta, .ref ga, .ref bk, .int 0, .int 0])), (ta, .inl (G.2 2, 8, .inr (.inr (.inr (.inr (va_up (va_up (va_up (va_up (va_up (va_up (va_up (va_up (fun _ => none) 0 (some t0)) 1 (some t1)) 2 (some t2)) 3 (some t3)) 4 (some t4)) 5 (some t5)) 6 (some t6)) 7 (some t7))))))), (ga, .inl (G.2 3, 4, .inr (.inr (.inr (.inr (va_up (fun _ => none) 0 (some g0))))))), (bk, .inr (2, [.ref q1, .ref q2, .ref q3, .int 0])), (q1, .inl (G.2 0, 16, .inl (fun _ => 0))), (q2, .inl (G.2 0, 16, .inl (fun _ => 0))), (q3, .inl (G.2 0, 16, .inl (fun _ => 0))), (t0, .inr (0, [.int 1, .int 1, .int 0, .int 0, .int 0, .int 0, .int 0, .int 0, .int 0])), (t1, .inr (0, [.int 1, .int 1, .int 0, .int 0, .int 0, .int 0, .int 0, .int 0, .int 0])), (t2, .inr (0, [.int 1, .int 1, .int 0, .int 0, .int 0, .int 0, .int 0, .int 0, .int 0])), (t3, .inr (0, [.int 1, .int 1, .int 0, .int 0, .int 0, .int 0, .int 0, .int 0, .int 0])), (t4, .inr (0, [.int 1, .int 1, .int 0, .int 0, .int 0, .int 0, .int 0, .int 0, .int 0])), (t5, .inr (0, [.int 1, .int 1, .int 0, .int 0, .int 0, .int 0, .int 0, .int 0, .int 0])), (t6, .inr (0, [.int 1, .int 1, .int 0, .int 0, .int 0, .int 0, .int 0, .int 0, .int 0])), (t7, .inr (0, [.int 1, .int 1, .int 0, .int 0, .int 0, .int 0, .int 0, .int 0, .int 0])), (g0, .inr (1, [.int 0, .int 1, .int 0, .int 0, .int 0, .int (-1)]))]) rfl ?_
  refine j_iinc (v := 1) X d_TG_init_79 rfl (by decide) ?_
  refine j_goto (tgt := 61) X d_TG_init_82 (by decide) ?_
  refine j_iload_n X d_TG_init_61 rfl ?_
  refine j_iconst (v := 4) X d_TG_init_62 (by decide) ?_
  refine j_icmp_ge (tgt := 85) X d_TG_init_63 (by decide) (fun h => absurd h (by decide)) (fun _ => ?_)
  refine j_aload_n X d_TG_init_66 rfl ?_
  refine j_get X i_TG 0 rfl rfl 1 (by decide) fl_TG_17 rfl d_TG_init_67 ?_
  refine j_iload_n X d_TG_init_70 rfl ?_
  refine j_new (ci := 1) (fs := [.int 0, .int 0, .int 0, .int 0, .int 0, .int 0]) X i_Gt t_Gt t_Gt_ok cl_TG_15 inst_Gt ini_Gt rfl (fun j hj => by rcases (show j = 0 ∨ j = 1 ∨ j = 2 ∨ j = 3 ∨ j = 4 ∨ j = 5 by omega) with rfl | rfl | rfl | rfl | rfl | rfl <;> rfl) (Nat.le_of_ble_eq_true rfl) (Nat.le_of_ble_eq_true rfl) d_TG_init_71 (fun g1 => ?_)
  refine j_dup X d_TG_init_74 rfl ?_
  refine j_callN X [] [.ref g1, .int 1, .ref ga] [(a, .inr (3, [.ref ta, .ref ga, .ref bk, .int 0, .int 0])), (ta, .inl (G.2 2, 8, .inr (.inr (.inr (.inr (va_up (va_up (va_up (va_up (va_up (va_up (va_up (va_up (fun _ => none) 0 (some t0)) 1 (some t1)) 2 (some t2)) 3 (some t3)) 4 (some t4)) 5 (some t5)) 6 (some t6)) 7 (some t7))))))), (ga, .inl (G.2 3, 4, .inr (.inr (.inr (.inr (va_up (fun _ => none) 0 (some g0))))))), (bk, .inr (2, [.ref q1, .ref q2, .ref q3, .int 0])), (q1, .inl (G.2 0, 16, .inl (fun _ => 0))), (q2, .inl (G.2 0, 16, .inl (fun _ => 0))), (q3, .inl (G.2 0, 16, .inl (fun _ => 0))), (t0, .inr (0, [.int 1, .int 1, .int 0, .int 0, .int 0, .int 0, .int 0, .int 0, .int 0])), (t1, .inr (0, [.int 1, .int 1, .int 0, .int 0, .int 0, .int 0, .int 0, .int 0, .int 0])), (t2, .inr (0, [.int 1, .int 1, .int 0, .int 0, .int 0, .int 0, .int 0, .int 0, .int 0])), (t3, .inr (0, [.int 1, .int 1, .int 0, .int 0, .int 0, .int 0, .int 0, .int 0, .int 0])), (t4, .inr (0, [.int 1, .int 1, .int 0, .int 0, .int 0, .int 0, .int 0, .int 0, .int 0])), (t5, .inr (0, [.int 1, .int 1, .int 0, .int 0, .int 0, .int 0, .int 0, .int 0, .int 0])), (t6, .inr (0, [.int 1, .int 1, .int 0, .int 0, .int 0, .int 0, .int 0, .int 0, .int 0])), (t7, .inr (0, [.int 1, .int 1, .int 0, .int 0, .int 0, .int 0, .int 0, .int 0, .int 0])), (g0, .inr (1, [.int 0, .int 1, .int 0, .int 0, .int 0, .int (-1)]))] [] (c_Gt_init _ _ g1) ok_TG_29 rfl rfl (Nat.le_of_ble_eq_true rfl) ⟨(Nat.le_of_ble_eq_true rfl), (Nat.le_of_ble_eq_true rfl)⟩ ⟨rfl, rfl⟩ rfl ⟨(Nat.le_of_ble_eq_true rfl), (Nat.le_of_ble_eq_true rfl)⟩ d_TG_init_75 (fun w1 hw => ?_)
  subst hw
  refine j_eqw (ws' := [(a, .inr (3, [.ref ta, .ref ga, .ref bk, .int 0, .int 0])), (ta, .inl (G.2 2, 8, .inr (.inr (.inr (.inr (va_up (va_up (va_up (va_up (va_up (va_up (va_up (va_up (fun _ => none) 0 (some t0)) 1 (some t1)) 2 (some t2)) 3 (some t3)) 4 (some t4)) 5 (some t5)) 6 (some t6)) 7 (some t7))))))), (ga, .inl (G.2 3, 4, .inr (.inr (.inr (.inr (va_up (fun _ => none) 0 (some g0))))))), (bk, .inr (2, [.ref q1, .ref q2, .ref q3, .int 0])), (q1, .inl (G.2 0, 16, .inl (fun _ => 0))), (q2, .inl (G.2 0, 16, .inl (fun _ => 0))), (q3, .inl (G.2 0, 16, .inl (fun _ => 0))), (t0, .inr (0, [.int 1, .int 1, .int 0, .int 0, .int 0, .int 0, .int 0, .int 0, .int 0])), (t1, .inr (0, [.int 1, .int 1, .int 0, .int 0, .int 0, .int 0, .int 0, .int 0, .int 0])), (t2, .inr (0, [.int 1, .int 1, .int 0, .int 0, .int 0, .int 0, .int 0, .int 0, .int 0])), (t3, .inr (0, [.int 1, .int 1, .int 0, .int 0, .int 0, .int 0, .int 0, .int 0, .int 0])), (t4, .inr (0, [.int 1, .int 1, .int 0, .int 0, .int 0, .int 0, .int 0, .int 0, .int 0])), (t5, .inr (0, [.int 1, .int 1, .int 0, .int 0, .int 0, .int 0, .int 0, .int 0, .int 0])), (t6, .inr (0, [.int 1, .int 1, .int 0, .int 0, .int 0, .int 0, .int 0, .int 0, .int 0])), (t7, .inr (0, [.int 1, .int 1, .int 0, .int 0, .int 0, .int 0, .int 0, .int 0, .int 0])), (g0, .inr (1, [.int 0, .int 1, .int 0, .int 0, .int 0, .int (-1)])), (g1, .inr (1, [.int 0, .int 1, .int 0, .int 0, .int 0, .int (-1)]))]) rfl ?_
  refine j_aastG X 2 16 rfl rfl (vp_in_nI (n := 1) (by decide) (by decide)) d_TG_init_78 ?_
  refine j_eqw (ws' := [(a, .inr (3, [.ref ta, .ref ga, .ref bk, .int 0, .int 0])), (ta, .inl (G.2 2, 8, .inr (.inr (.inr (.inr (va_up (va_up (va_up (va_up (va_up (va_up (va_up (va_up (fun _ => none) 0 (some t0)) 1 (some t1)) 2 (some t2)) 3 (some t3)) 4 (some t4)) 5 (some t5)) 6 (some t6)) 7 (some t7))))))), (ga, .inl (G.2 3, 4, .inr (.inr (.inr (.inr (va_up (va_up (fun _ => none) 0 (some g0)) 1 (some g1))))))), (bk, .inr (2, [.ref q1, .ref q2, .ref q3, .int 0])), (q1, .inl (G.2 0, 16, .inl (fun _ => 0))), (q2, .inl (G.2 0, 16, .inl (fun _ => 0))), (q3, .inl (G.2 0, 16, .inl (fun _ => 0))), (t0, .inr (0, [.int 1, .int 1, .int 0, .int 0, .int 0, .int 0, .int 0, .int 0, .int 0])), (t1, .inr (0, [.int 1, .int 1, .int 0, .int 0, .int 0, .int 0, .int 0, .int 0, .int 0])), (t2, .inr (0, [.int 1, .int 1, .int 0, .int 0, .int 0, .int 0, .int 0, .int 0, .int 0])), (t3, .inr (0, [.int 1, .int 1, .int 0, .int 0, .int 0, .int 0, .int 0, .int 0, .int 0])), (t4, .inr (0, [.int 1, .int 1, .int 0, .int 0, .int 0, .int 0, .int 0, .int 0, .int 0])), (t5, .inr (0, [.int 1, .int 1, .int 0, .int 0, .int 0, .int 0, .int 0, .int 0, .int 0])), (t6, .inr (0, [.int 1, .int 1, .int 0, .int 0, .int 0, .int 0, .int 0, .int 0, .int 0])), (t7, .inr (0, [.int 1, .int 1, .int 0, .int 0, .int 0, .int 0, .int 0, .int 0, .int 0])), (g0, .inr (1, [.int 0, .int 1, .int 0, .int 0, .int 0, .int (-1)])), (g1, .inr (1, [.int 0, .int 1, .int 0, .int 0, .int 0, .int (-1)]))]) rfl ?_
  refine j_iinc (v := 2) X d_TG_init_79 rfl (by decide) ?_
  refine j_goto (tgt := 61) X d_TG_init_82 (by decide) ?_
  refine j_iload_n X d_TG_init_61 rfl ?_
  refine j_iconst (v := 4) X d_TG_init_62 (by decide) ?_
  refine j_icmp_ge (tgt := 85) X d_TG_init_63 (by decide) (fun h => absurd h (by decide)) (fun _ => ?_)
  refine j_aload_n X d_TG_init_66 rfl ?_
  refine j_get X i_TG 0 rfl rfl 1 (by decide) fl_TG_17 rfl d_TG_init_67 ?_
  refine j_iload_n X d_TG_init_70 rfl ?_
  refine j_new (ci := 1) (fs := [.int 0, .int 0, .int 0, .int 0, .int 0, .int 0]) X i_Gt t_Gt t_Gt_ok cl_TG_15 inst_Gt ini_Gt rfl (fun j hj => by rcases (show j = 0 ∨ j = 1 ∨ j = 2 ∨ j = 3 ∨ j = 4 ∨ j = 5 by omega) with rfl | rfl | rfl | rfl | rfl | rfl <;> rfl) (Nat.le_of_ble_eq_true rfl) (Nat.le_of_ble_eq_true rfl) d_TG_init_71 (fun g2 => ?_)
  refine j_dup X d_TG_init_74 rfl ?_
  refine j_callN X [] [.ref g2, .int 2, .ref ga] [(a, .inr (3, [.ref ta, .ref ga, .ref bk, .int 0, .int 0])), (ta, .inl (G.2 2, 8, .inr (.inr (.inr (.inr (va_up (va_up (va_up (va_up (va_up (va_up (va_up (va_up (fun _ => none) 0 (some t0)) 1 (some t1)) 2 (some t2)) 3 (some t3)) 4 (some t4)) 5 (some t5)) 6 (some t6)) 7 (some t7))))))), (ga, .inl (G.2 3, 4, .inr (.inr (.inr (.inr (va_up (va_up (fun _ => none) 0 (some g0)) 1 (some g1))))))), (bk, .inr (2, [.ref q1, .ref q2, .ref q3, .int 0])), (q1, .inl (G.2 0, 16, .inl (fun _ => 0))), (q2, .inl (G.2 0, 16, .inl (fun _ => 0))), (q3, .inl (G.2 0, 16, .inl (fun _ => 0))), (t0, .inr (0, [.int 1, .int 1, .int 0, .int 0, .int 0, .int 0, .int 0, .int 0, .int 0])), (t1, .inr (0, [.int 1, .int 1, .int 0, .int 0, .int 0, .int 0, .int 0, .int 0, .int 0])), (t2, .inr (0, [.int 1, .int 1, .int 0, .int 0, .int 0, .int 0, .int 0, .int 0, .int 0])), (t3, .inr (0, [.int 1, .int 1, .int 0, .int 0, .int 0, .int 0, .int 0, .int 0, .int 0])), (t4, .inr (0, [.int 1, .int 1, .int 0, .int 0, .int 0, .int 0, .int 0, .int 0, .int 0])), (t5, .inr (0, [.int 1, .int 1, .int 0, .int 0, .int 0, .int 0, .int 0, .int 0, .int 0])), (t6, .inr (0, [.int 1, .int 1, .int 0, .int 0, .int 0, .int 0, .int 0, .int 0, .int 0])), (t7, .inr (0, [.int 1, .int 1, .int 0, .int 0, .int 0, .int 0, .int 0, .int 0, .int 0])), (g0, .inr (1, [.int 0, .int 1, .int 0, .int 0, .int 0, .int (-1)])), (g1, .inr (1, [.int 0, .int 1, .int 0, .int 0, .int 0, .int (-1)]))] [] (c_Gt_init _ _ g2) ok_TG_29 rfl rfl (Nat.le_of_ble_eq_true rfl) ⟨(Nat.le_of_ble_eq_true rfl), (Nat.le_of_ble_eq_true rfl)⟩ ⟨rfl, rfl⟩ rfl ⟨(Nat.le_of_ble_eq_true rfl), (Nat.le_of_ble_eq_true rfl)⟩ d_TG_init_75 (fun w1 hw => ?_)
  subst hw
  refine j_eqw (ws' := [(a, .inr (3, [.ref ta, .ref ga, .ref bk, .int 0, .int 0])), (ta, .inl (G.2 2, 8, .inr (.inr (.inr (.inr (va_up (va_up (va_up (va_up (va_up (va_up (va_up (va_up (fun _ => none) 0 (some t0)) 1 (some t1)) 2 (some t2)) 3 (some t3)) 4 (some t4)) 5 (some t5)) 6 (some t6)) 7 (some t7))))))), (ga, .inl (G.2 3, 4, .inr (.inr (.inr (.inr (va_up (va_up (fun _ => none) 0 (some g0)) 1 (some g1))))))), (bk, .inr (2, [.ref q1, .ref q2, .ref q3, .int 0])), (q1, .inl (G.2 0, 16, .inl (fun _ => 0))), (q2, .inl (G.2 0, 16, .inl (fun _ => 0))), (q3, .inl (G.2 0, 16, .inl (fun _ => 0))), (t0, .inr (0, [.int 1, .int 1, .int 0, .int 0, .int 0, .int 0, .int 0, .int 0, .int 0])), (t1, .inr (0, [.int 1, .int 1, .int 0, .int 0, .int 0, .int 0, .int 0, .int 0, .int 0])), (t2, .inr (0, [.int 1, .int 1, .int 0, .int 0, .int 0, .int 0, .int 0, .int 0, .int 0])), (t3, .inr (0, [.int 1, .int 1, .int 0, .int 0, .int 0, .int 0, .int 0, .int 0, .int 0])), (t4, .inr (0, [.int 1, .int 1, .int 0, .int 0, .int 0, .int 0, .int 0, .int 0, .int 0])), (t5, .inr (0, [.int 1, .int 1, .int 0, .int 0, .int 0, .int 0, .int 0, .int 0, .int 0])), (t6, .inr (0, [.int 1, .int 1, .int 0, .int 0, .int 0, .int 0, .int 0, .int 0, .int 0])), (t7, .inr (0, [.int 1, .int 1, .int 0, .int 0, .int 0, .int 0, .int 0, .int 0, .int 0])), (g0, .inr (1, [.int 0, .int 1, .int 0, .int 0, .int 0, .int (-1)])), (g1, .inr (1, [.int 0, .int 1, .int 0, .int 0, .int 0, .int (-1)])), (g2, .inr (1, [.int 0, .int 1, .int 0, .int 0, .int 0, .int (-1)]))]) rfl ?_
  refine j_aastG X 2 17 rfl rfl (vp_in_nI (n := 2) (by decide) (by decide)) d_TG_init_78 ?_
  refine j_eqw (ws' := [(a, .inr (3, [.ref ta, .ref ga, .ref bk, .int 0, .int 0])), (ta, .inl (G.2 2, 8, .inr (.inr (.inr (.inr (va_up (va_up (va_up (va_up (va_up (va_up (va_up (va_up (fun _ => none) 0 (some t0)) 1 (some t1)) 2 (some t2)) 3 (some t3)) 4 (some t4)) 5 (some t5)) 6 (some t6)) 7 (some t7))))))), (ga, .inl (G.2 3, 4, .inr (.inr (.inr (.inr (va_up (va_up (va_up (fun _ => none) 0 (some g0)) 1 (some g1)) 2 (some g2))))))), (bk, .inr (2, [.ref q1, .ref q2, .ref q3, .int 0])), (q1, .inl (G.2 0, 16, .inl (fun _ => 0))), (q2, .inl (G.2 0, 16, .inl (fun _ => 0))), (q3, .inl (G.2 0, 16, .inl (fun _ => 0))), (t0, .inr (0, [.int 1, .int 1, .int 0, .int 0, .int 0, .int 0, .int 0, .int 0, .int 0])), (t1, .inr (0, [.int 1, .int 1, .int 0, .int 0, .int 0, .int 0, .int 0, .int 0, .int 0])), (t2, .inr (0, [.int 1, .int 1, .int 0, .int 0, .int 0, .int 0, .int 0, .int 0, .int 0])), (t3, .inr (0, [.int 1, .int 1, .int 0, .int 0, .int 0, .int 0, .int 0, .int 0, .int 0])), (t4, .inr (0, [.int 1, .int 1, .int 0, .int 0, .int 0, .int 0, .int 0, .int 0, .int 0])), (t5, .inr (0, [.int 1, .int 1, .int 0, .int 0, .int 0, .int 0, .int 0, .int 0, .int 0])), (t6, .inr (0, [.int 1, .int 1, .int 0, .int 0, .int 0, .int 0, .int 0, .int 0, .int 0])), (t7, .inr (0, [.int 1, .int 1, .int 0, .int 0, .int 0, .int 0, .int 0, .int 0, .int 0])), (g0, .inr (1, [.int 0, .int 1, .int 0, .int 0, .int 0, .int (-1)])), (g1, .inr (1, [.int 0, .int 1, .int 0, .int 0, .int 0, .int (-1)])), (g2, .inr (1, [.int 0, .int 1, .int 0, .int 0, .int 0, .int (-1)]))]) rfl ?_
  refine j_iinc (v := 3) X d_TG_init_79 rfl (by decide) ?_
  refine j_goto (tgt := 61) X d_TG_init_82 (by decide) ?_
  refine j_iload_n X d_TG_init_61 rfl ?_
  refine j_iconst (v := 4) X d_TG_init_62 (by decide) ?_
  refine j_icmp_ge (tgt := 85) X d_TG_init_63 (by decide) (fun h => absurd h (by decide)) (fun _ => ?_)
  refine j_aload_n X d_TG_init_66 rfl ?_
  refine j_get X i_TG 0 rfl rfl 1 (by decide) fl_TG_17 rfl d_TG_init_67 ?_
  refine j_iload_n X d_TG_init_70 rfl ?_
  refine j_new (ci := 1) (fs := [.int 0, .int 0, .int 0, .int 0, .int 0, .int 0]) X i_Gt t_Gt t_Gt_ok cl_TG_15 inst_Gt ini_Gt rfl (fun j hj => by rcases (show j = 0 ∨ j = 1 ∨ j = 2 ∨ j = 3 ∨ j = 4 ∨ j = 5 by omega) with rfl | rfl | rfl | rfl | rfl | rfl <;> rfl) (Nat.le_of_ble_eq_true rfl) (Nat.le_of_ble_eq_true rfl) d_TG_init_71 (fun g3 => ?_)
  refine j_dup X d_TG_init_74 rfl ?_
  refine j_callN X [] [.ref g3, .int 3, .ref ga] [(a, .inr (3, [.ref ta, .ref ga, .ref bk, .int 0, .int 0])), (ta, .inl (G.2 2, 8, .inr (.inr (.inr (.inr (va_up (va_up (va_up (va_up (va_up (va_up (va_up (va_up (fun _ => none) 0 (some t0)) 1 (some t1)) 2 (some t2)) 3 (some t3)) 4 (some t4)) 5 (some t5)) 6 (some t6)) 7 (some t7))))))), (ga, .inl (G.2 3, 4, .inr (.inr (.inr (.inr (va_up (va_up (va_up (fun _ => none) 0 (some g0)) 1 (some g1)) 2 (some g2))))))), (bk, .inr (2, [.ref q1, .ref q2, .ref q3, .int 0])), (q1, .inl (G.2 0, 16, .inl (fun _ => 0))), (q2, .inl (G.2 0, 16, .inl (fun _ => 0))), (q3, .inl (G.2 0, 16, .inl (fun _ => 0))), (t0, .inr (0, [.int 1, .int 1, .int 0, .int 0, .int 0, .int 0, .int 0, .int 0, .int 0])), (t1, .inr (0, [.int 1, .int 1, .int 0, .int 0, .int 0, .int 0, .int 0, .int 0, .int 0])), (t2, .inr (0, [.int 1, .int 1, .int 0, .int 0, .int 0, .int 0, .int 0, .int 0, .int 0])), (t3, .inr (0, [.int 1, .int 1, .int 0, .int 0, .int 0, .int 0, .int 0, .int 0, .int 0])), (t4, .inr (0, [.int 1, .int 1, .int 0, .int 0, .int 0, .int 0, .int 0, .int 0, .int 0])), (t5, .inr (0, [.int 1, .int 1, .int 0, .int 0, .int 0, .int 0, .int 0, .int 0, .int 0])), (t6, .inr (0, [.int 1, .int 1, .int 0, .int 0, .int 0, .int 0, .int 0, .int 0, .int 0])), (t7, .inr (0, [.int 1, .int 1, .int 0, .int 0, .int 0, .int 0, .int 0, .int 0, .int 0])), (g0, .inr (1, [.int 0, .int 1, .int 0, .int 0, .int 0, .int (-1)])), (g1, .inr (1, [.int 0, .int 1, .int 0, .int 0, .int 0, .int (-1)])), (g2, .inr (1, [.int 0, .int 1, .int 0, .int 0, .int 0, .int (-1)]))] [] (c_Gt_init _ _ g3) ok_TG_29 rfl rfl (Nat.le_of_ble_eq_true rfl) ⟨(Nat.le_of_ble_eq_true rfl), (Nat.le_of_ble_eq_true rfl)⟩ ⟨rfl, rfl⟩ rfl ⟨(Nat.le_of_ble_eq_true rfl), (Nat.le_of_ble_eq_true rfl)⟩ d_TG_init_75 (fun w1 hw => ?_)
  subst hw
  refine j_eqw (ws' := [(a, .inr (3, [.ref ta, .ref ga, .ref bk, .int 0, .int 0])), (ta, .inl (G.2 2, 8, .inr (.inr (.inr (.inr (va_up (va_up (va_up (va_up (va_up (va_up (va_up (va_up (fun _ => none) 0 (some t0)) 1 (some t1)) 2 (some t2)) 3 (some t3)) 4 (some t4)) 5 (some t5)) 6 (some t6)) 7 (some t7))))))), (ga, .inl (G.2 3, 4, .inr (.inr (.inr (.inr (va_up (va_up (va_up (fun _ => none) 0 (some g0)) 1 (some g1)) 2 (some g2))))))), (bk, .inr (2, [.ref q1, .ref q2, .ref q3, .int 0])), (q1, .inl (G.2 0, 16, .inl (fun _ => 0))), (q2, .inl (G.2 0, 16, .inl (fun _ => 0))), (q3, .inl (G.2 0, 16, .inl (fun _ => 0))), (t0, .inr (0, [.int 1, .int 1, .int 0, .int 0, .int 0, .int 0, .int 0, .int 0, .int 0])), (t1, .inr (0, [.int 1, .int 1, .int 0, .int 0, .int 0, .int 0, .int 0, .int 0, .int 0])), (t2, .inr (0, [.int 1, .int 1, .int 0, .int 0, .int 0, .int 0, .int 0, .int 0, .int 0])), (t3, .inr (0, [.int 1, .int 1, .int 0, .int 0, .int 0, .int 0, .int 0, .int 0, .int 0])), (t4, .inr (0, [.int 1, .int 1, .int 0, .int 0, .int 0, .int 0, .int 0, .int 0, .int 0])), (t5, .inr (0, [.int 1, .int 1, .int 0, .int 0, .int 0, .int 0, .int 0, .int 0, .int 0])), (t6, .inr (0, [.int 1, .int 1, .int 0, .int 0, .int 0, .int 0, .int 0, .int 0, .int 0])), (t7, .inr (0, [.int 1, .int 1, .int 0, .int 0, .int 0, .int 0, .int 0, .int 0, .int 0])), (g0, .inr (1, [.int 0, .int 1, .int 0, .int 0, .int 0, .int (-1)])), (g1, .inr (1, [.int 0, .int 1, .int 0, .int 0, .int 0, .int (-1)])), (g2, .inr (1, [.int 0, .int 1, .int 0, .int 0, .int 0, .int (-1)])), (g3, .inr (1, [.int 0, .int 1, .int 0, .int 0, .int 0, .int (-1)]))]) rfl ?_
  refine j_aastG X 2 18 rfl rfl (vp_in_nI (n := 3) (by decide) (by decide)) d_TG_init_78 ?_
  refine j_eqw (ws' := [(a, .inr (3, [.ref ta, .ref ga, .ref bk, .int 0, .int 0])), (ta, .inl (G.2 2, 8, .inr (.inr (.inr (.inr (va_up (va_up (va_up (va_up (va_up (va_up (va_up (va_up (fun _ => none) 0 (some t0)) 1 (some t1)) 2 (some t2)) 3 (some t3)) 4 (some t4)) 5 (some t5)) 6 (some t6)) 7 (some t7))))))), (ga, .inl (G.2 3, 4, .inr (.inr (.inr (.inr (va_up (va_up (va_up (va_up (fun _ => none) 0 (some g0)) 1 (some g1)) 2 (some g2)) 3 (some g3))))))), (bk, .inr (2, [.ref q1, .ref q2, .ref q3, .int 0])), (q1, .inl (G.2 0, 16, .inl (fun _ => 0))), (q2, .inl (G.2 0, 16, .inl (fun _ => 0))), (q3, .inl (G.2 0, 16, .inl (fun _ => 0))), (t0, .inr (0, [.int 1, .int 1, .int 0, .int 0, .int 0, .int 0, .int 0, .int 0, .int 0])), (t1, .inr (0, [.int 1, .int 1, .int 0, .int 0, .int 0, .int 0, .int 0, .int 0, .int 0])), (t2, .inr (0, [.int 1, .int 1, .int 0, .int 0, .int 0, .int 0, .int 0, .int 0, .int 0])), (t3, .inr (0, [.int 1, .int 1, .int 0, .int 0, .int 0, .int 0, .int 0, .int 0, .int 0])), (t4, .inr (0, [.int 1, .int 1, .int 0, .int 0, .int 0, .int 0, .int 0, .int 0, .int 0])), (t5, .inr (0, [.int 1, .int 1, .int 0, .int 0, .int 0, .int 0, .int 0, .int 0, .int 0])), (t6, .inr (0, [.int 1, .int 1, .int 0, .int 0, .int 0, .int 0, .int 0, .int 0, .int 0])), (t7, .inr (0, [.int 1, .int 1, .int 0, .int 0, .int 0, .int 0, .int 0, .int 0, .int 0])), (g0, .inr (1, [.int 0, .int 1, .int 0, .int 0, .int 0, .int (-1)])), (g1, .inr (1, [.int 0, .int 1, .int 0, .int 0, .int 0, .int (-1)])), (g2, .inr (1, [.int 0, .int 1, .int 0, .int 0, .int 0, .int (-1)])), (g3, .inr (1, [.int 0, .int 1, .int 0, .int 0, .int 0, .int (-1)]))]) rfl ?_
  refine j_iinc (v := 4) X d_TG_init_79 rfl (by decide) ?_
  refine j_goto (tgt := 61) X d_TG_init_82 (by decide) ?_
  refine j_iload_n X d_TG_init_61 rfl ?_
  refine j_iconst (v := 4) X d_TG_init_62 (by decide) ?_
  refine j_icmp_ge (tgt := 85) X d_TG_init_63 (by decide) (fun _ => ?_) (fun h => absurd (by decide) h)
  refine j_cong (y' := (8, .inr (.inr (.inr (.inr (fun t => some ([a, ta, ga, bk, q1, q2, q3, t0, t1, t2, t3, t4, t5, t6, t7, g0, g1, g2, g3].getD (7 + t) 0))))))) 1 rfl (cell_q (fun i hi => by rcases lt8 hi with rfl | rfl | rfl | rfl | rfl | rfl | rfl | rfl <;> rfl)) ?_
  refine j_cong (y' := (4, .inr (.inr (.inr (.inr (fun g => some ([a, ta, ga, bk, q1, q2, q3, t0, t1, t2, t3, t4, t5, t6, t7, g0, g1, g2, g3].getD (15 + g) 0))))))) 2 rfl (cell_q (fun i hi => by rcases lt4 hi with rfl | rfl | rfl | rfl <;> rfl)) ?_
  exact j_vret X ⟨fun k => [a, ta, ga, bk, q1, q2, q3, t0, t1, t2, t3, t4, t5, t6, t7, g0, g1, g2, g3].getD k 0, rfl, rfl⟩ d_TG_init_85
set_option maxHeartbeats 4000000 in
set_option maxRecDepth 100000 in
theorem c_Md_init (l : Launch) (G : Gid) (a : Nat) : CtV l y_Md_init b_Md_init 1 rMi G [.ref a] [(a, .inr (4, [.int 0, .int 0, .int 0, .int 0, .null, .null, .null, .null, .null, .null, .null, .null, .null, .null, .null, .null, .null, .null]))] 14 148 (fun w => ∃ (bd : Nat → Nat) (dn : Nat → Int32), bd 0 = a ∧ w = wM G bd S0 dn) := by
  refine CtV.of (own := R_Md) (L := [some (.ref a)]) (by decide) rfl rfl (Nat.le_of_ble_eq_true rfl) rfl (fun x X hnm => ?_)
  refine j_aload_n X d_Md_init_0 rfl ?_
  refine j_objInit X ml_Md_1 d_Md_init_1 (Nat.le_of_ble_eq_true rfl) (Nat.le_of_ble_eq_true rfl) rfl ?_
  refine j_aload_n X d_Md_init_4 rfl ?_
  refine j_bipush (v := 8) X d_Md_init_5 (by decide) ?_
  refine j_newi X (by decide) rfl (by decide) (Nat.le_of_ble_eq_true rfl) (Nat.le_of_ble_eq_true rfl) d_Md_init_7 (fun b1 => ?_)
  refine j_eqw (ws' := [(a, .inr (4, [.int 0, .int 0, .int 0, .int 0, .null, .null, .null, .null, .null, .null, .null, .null, .null, .null, .null, .null, .null, .null])), (b1, .inl (G.2 0, 8, .inl (fun _ => 0)))]) rfl ?_
  refine j_dup X d_Md_init_9 rfl ?_
  refine j_iconst (v := 0) X d_Md_init_10 (by decide) ?_
  refine j_iconst (v := 1) X d_Md_init_11 (by decide) ?_
  refine j_iast X 1 rfl (vp_in_nI (n := 0) (by decide) (by decide)) d_Md_init_12 ?_
  refine j_eqw (ws' := [(a, .inr (4, [.int 0, .int 0, .int 0, .int 0, .null, .null, .null, .null, .null, .null, .null, .null, .null, .null, .null, .null, .null, .null])), (b1, .inl (G.2 0, 8, .inl (upd (fun _ => 0) 0 1)))]) rfl ?_
  refine j_dup X d_Md_init_13 rfl ?_
  refine j_iconst (v := 1) X d_Md_init_14 (by decide) ?_
  refine j_iconst (v := 1) X d_Md_init_15 (by decide) ?_
  refine j_iast X 1 rfl (vp_in_nI (n := 1) (by decide) (by decide)) d_Md_init_16 ?_
  refine j_eqw (ws' := [(a, .inr (4, [.int 0, .int 0, .int 0, .int 0, .null, .null, .null, .null, .null, .null, .null, .null, .null, .null, .null, .null, .null, .null])), (b1, .inl (G.2 0, 8, .inl (upd (upd (fun _ => 0) 0 1) 1 1)))]) rfl ?_
  refine j_dup X d_Md_init_17 rfl ?_
  refine j_iconst (v := 2) X d_Md_init_18 (by decide) ?_
  refine j_iconst (v := 1) X d_Md_init_19 (by decide) ?_
  refine j_iast X 1 rfl (vp_in_nI (n := 2) (by decide) (by decide)) d_Md_init_20 ?_
  refine j_eqw (ws' := [(a, .inr (4, [.int 0, .int 0, .int 0, .int 0, .null, .null, .null, .null, .null, .null, .null, .null, .null, .null, .null, .null, .null, .null])), (b1, .inl (G.2 0, 8, .inl (upd (upd (upd (fun _ => 0) 0 1) 1 1) 2 1)))]) rfl ?_
  refine j_dup X d_Md_init_21 rfl ?_
  refine j_iconst (v := 3) X d_Md_init_22 (by decide) ?_
  refine j_iconst (v := 1) X d_Md_init_23 (by decide) ?_
  refine j_iast X 1 rfl (vp_in_nI (n := 3) (by decide) (by decide)) d_Md_init_24 ?_
  refine j_eqw (ws' := [(a, .inr (4, [.int 0, .int 0, .int 0, .int 0, .null, .null, .null, .null, .null, .null, .null, .null, .null, .null, .null, .null, .null, .null])), (b1, .inl (G.2 0, 8, .inl (upd (upd (upd (upd (fun _ => 0) 0 1) 1 1) 2 1) 3 1)))]) rfl ?_
  refine j_dup X d_Md_init_25 rfl ?_
  refine j_iconst (v := 4) X d_Md_init_26 (by decide) ?_
  refine j_iconst (v := 1) X d_Md_init_27 (by decide) ?_
  refine j_iast X 1 rfl (vp_in_nI (n := 4) (by decide) (by decide)) d_Md_init_28 ?_
  refine j_eqw (ws' := [(a, .inr (4, [.int 0, .int 0, .int 0, .int 0, .null, .null, .null, .null, .null, .null, .null, .null, .null, .null, .null, .null, .null, .null])), (b1, .inl (G.2 0, 8, .inl (upd (upd (upd (upd (upd (fun _ => 0) 0 1) 1 1) 2 1) 3 1) 4 1)))]) rfl ?_
  refine j_dup X d_Md_init_29 rfl ?_
  refine j_iconst (v := 5) X d_Md_init_30 (by decide) ?_
  refine j_iconst (v := 1) X d_Md_init_31 (by decide) ?_
  refine j_iast X 1 rfl (vp_in_nI (n := 5) (by decide) (by decide)) d_Md_init_32 ?_
  refine j_eqw (ws' := [(a, .inr (4, [.int 0, .int 0, .int 0, .int 0, .null, .null, .null, .null, .null, .null, .null, .null, .null, .null, .null, .null, .null, .null])), (b1, .inl (G.2 0, 8, .inl (upd (upd (upd (upd (upd (upd (fun _ => 0) 0 1) 1 1) 2 1) 3 1) 4 1) 5 1)))]) rfl ?_
  refine j_dup X d_Md_init_33 rfl ?_
  refine j_bipush (v := 6) X d_Md_init_34 (by decide) ?_
  refine j_iconst (v := 1) X d_Md_init_36 (by decide) ?_
  refine j_iast X 1 rfl (vp_in_nI (n := 6) (by decide) (by decide)) d_Md_init_37 ?_
  refine j_eqw (ws' := [(a, .inr (4, [.int 0, .int 0, .int 0, .int 0, .null, .null, .null, .null, .null, .null, .null, .null, .null, .null, .null, .null, .null, .null])), (b1, .inl (G.2 0, 8, .inl (upd (upd (upd (upd (upd (upd (upd (fun _ => 0) 0 1) 1 1) 2 1) 3 1) 4 1) 5 1) 6 1)))]) rfl ?_
  refine j_dup X d_Md_init_38 rfl ?_
  refine j_bipush (v := 7) X d_Md_init_39 (by decide) ?_
  refine j_iconst (v := 1) X d_Md_init_41 (by decide) ?_
  refine j_iast X 1 rfl (vp_in_nI (n := 7) (by decide) (by decide)) d_Md_init_42 ?_
  refine j_eqw (ws' := [(a, .inr (4, [.int 0, .int 0, .int 0, .int 0, .null, .null, .null, .null, .null, .null, .null, .null, .null, .null, .null, .null, .null, .null])), (b1, .inl (G.2 0, 8, .inl (upd (upd (upd (upd (upd (upd (upd (upd (fun _ => 0) 0 1) 1 1) 2 1) 3 1) 4 1) 5 1) 6 1) 7 1)))]) rfl ?_
  refine j_putF X i_Md t_Md t_Md_ok n_Md 0 rfl rfl 4 (by decide) fl_Md_7 rfl hnm rfl rfl rfl rfl (Nat.le_of_ble_eq_true rfl) d_Md_init_43 ?_
  refine j_eqw (ws' := [(a, .inr (4, [.int 0, .int 0, .int 0, .int 0, .ref b1, .null, .null, .null, .null, .null, .null, .null, .null, .null, .null, .null, .null, .null])), (b1, .inl (G.2 0, 8, .inl (upd (upd (upd (upd (upd (upd (upd (upd (fun _ => 0) 0 1) 1 1) 2 1) 3 1) 4 1) 5 1) 6 1) 7 1)))]) rfl ?_
  refine j_aload_n X d_Md_init_46 rfl ?_
  refine j_bipush (v := 8) X d_Md_init_47 (by decide) ?_
  refine j_newi X (by decide) rfl (by decide) (Nat.le_of_ble_eq_true rfl) (Nat.le_of_ble_eq_true rfl) d_Md_init_49 (fun b2 => ?_)
  refine j_eqw (ws' := [(a, .inr (4, [.int 0, .int 0, .int 0, .int 0, .ref b1, .null, .null, .null, .null, .null, .null, .null, .null, .null, .null, .null, .null, .null])), (b1, .inl (G.2 0, 8, .inl (upd (upd (upd (upd (upd (upd (upd (upd (fun _ => 0) 0 1) 1 1) 2 1) 3 1) 4 1) 5 1) 6 1) 7 1))), (b2, .inl (G.2 0, 8, .inl (fun _ => 0)))]) rfl ?_
  refine j_dup X d_Md_init_51 rfl ?_
  refine j_iconst (v := 0) X d_Md_init_52 (by decide) ?_
  refine j_iconst (v := 1) X d_Md_init_53 (by decide) ?_
  refine j_iast X 2 rfl (vp_in_nI (n := 0) (by decide) (by decide)) d_Md_init_54 ?_
  refine j_eqw (ws' := [(a, .inr (4, [.int 0, .int 0, .int 0, .int 0, .ref b1, .null, .null, .null, .null, .null, .null, .null, .null, .null, .null, .null, .null, .null])), (b1, .inl (G.2 0, 8, .inl (upd (upd (upd (upd (upd (upd (upd (upd (fun _ => 0) 0 1) 1 1) 2 1) 3 1) 4 1) 5 1) 6 1) 7 1))), (b2, .inl (G.2 0, 8, .inl (upd (fun _ => 0) 0 1)))]) rfl ?_
  refine j_dup X d_Md_init_55 rfl ?_
  refine j_iconst (v := 1) X d_Md_init_56 (by decide) ?_
  refine j_iconst (v := 1) X d_Md_init_57 (by decide) ?_
  refine j_iast X 2 rfl (vp_in_nI (n := 1) (by decide) (by decide)) d_Md_init_58 ?_
  refine j_eqw (ws' := [(a, .inr (4, [.int 0, .int 0, .int 0, .int 0, .ref b1, .null, .null, .null, .null, .null, .null, .null, .null, .null, .null, .null, .null, .null])), (b1, .inl (G.2 0, 8, .inl (upd (upd (upd (upd (upd (upd (upd (upd (fun _ => 0) 0 1) 1 1) 2 1) 3 1) 4 1) 5 1) 6 1) 7 1))), (b2, .inl (G.2 0, 8, .inl (upd (upd (fun _ => 0) 0 1) 1 1)))]) rfl ?_
  refine j_dup X d_Md_init_59 rfl ?_
  refine j_iconst (v := 2) X d_Md_init_60 (by decide) ?_
  refine j_iconst (v := 1) X d_Md_init_61 (by decide) ?_
  refine j_iast X 2 rfl (vp_in_nI (n := 2) (by decide) (by decide)) d_Md_init_62 ?_
  refine j_eqw (ws' := [(a, .inr (4, [.int 0, .int 0, .int 0, .int 0, .ref b1, .null, .null, .null, .null, .null, .null, .null, .null, .null, .null, .null, .null, .null])), (b1, .inl (G.2 0, 8, .inl (upd (upd (upd (upd (upd (upd (upd (upd (fun _ => 0) 0 1) 1 1) 2 1) 3 1) 4 1) 5 1) 6 1) 7 1))), (b2, .inl (G.2 0, 8, .inl (upd (upd (upd (fun _ => 0) 0 1) 1 1) 2 1)))]) rfl ?_
  refine j_dup X d_Md_init_63 rfl ?_
  refine j_iconst (v := 3) X d_Md_init_64 (by decide) ?_
  refine j_iconst (v := 1) X d_Md_init_65 (by decide) ?_
  refine j_iast X 2 rfl (vp_in_nI (n := 3) (by decide) (by decide)) d_Md_init_66 ?_
  refine j_eqw (ws' := [(a, .inr (4, [.int 0, .int 0, .int 0, .int 0, .ref b1, .null, .null, .null, .null, .null, .null, .null, .null, .null, .null, .null, .null, .null])), (b1, .inl (G.2 0, 8, .inl (upd (upd (upd (upd (upd (upd (upd (upd (fun _ => 0) 0 1) 1 1) 2 1) 3 1) 4 1) 5 1) 6 1) 7 1))), (b2, .inl (G.2 0, 8, .inl (upd (upd (upd (upd (fun _ => 0) 0 1) 1 1) 2 1) 3 1)))]) rfl ?_
  refine j_dup X d_Md_init_67 rfl ?_
  refine j_iconst (v := 4) X d_Md_init_68 (by decide) ?_
  refine j_iconst (v := 1) X d_Md_init_69 (by decide) ?_
  refine j_iast X 2 rfl (vp_in_nI (n := 4) (by decide) (by decide)) d_Md_init_70 ?_
  refine j_eqw (ws' := [(a, .inr (4, [.int 0, .int 0, .int 0, .int 0, .ref b1, .null, .null, .null, .null, .null, .null, .null, .null, .null, .null, .null, .null, .null])), (b1, .inl (G.2 0, 8, .inl (upd (upd (upd (upd (upd (upd (upd (upd (fun _ => 0) 0 1) 1 1) 2 1) 3 1) 4 1) 5 1) 6 1) 7 1))), (b2, .inl (G.2 0, 8, .inl (upd (upd (upd (upd (upd (fun _ => 0) 0 1) 1 1) 2 1) 3 1) 4 1)))]) rfl ?_
  refine j_dup X d_Md_init_71 rfl ?_
  refine j_iconst (v := 5) X d_Md_init_72 (by decide) ?_
  refine j_iconst (v := 1) X d_Md_init_73 (by decide) ?_
  refine j_iast X 2 rfl (vp_in_nI (n := 5) (by decide) (by decide)) d_Md_init_74 ?_
  refine j_eqw (ws' := [(a, .inr (4, [.int 0, .int 0, .int 0, .int 0, .ref b1, .null, .null, .null, .null, .null, .null, .null, .null, .null, .null, .null, .null, .null])), (b1, .inl (G.2 0, 8, .inl (upd (upd (upd (upd (upd (upd (upd (upd (fun _ => 0) 0 1) 1 1) 2 1) 3 1) 4 1) 5 1) 6 1) 7 1))), (b2, .inl (G.2 0, 8, .inl (upd (upd (upd (upd (upd (upd (fun _ => 0) 0 1) 1 1) 2 1) 3 1) 4 1) 5 1)))]) rfl ?_
  refine j_dup X d_Md_init_75 rfl ?_
  refine j_bipush (v := 6) X d_Md_init_76 (by decide) ?_
  refine j_iconst (v := 1) X d_Md_init_78 (by decide) ?_
  refine j_iast X 2 rfl (vp_in_nI (n := 6) (by decide) (by decide)) d_Md_init_79 ?_
  refine j_eqw (ws' := [(a, .inr (4, [.int 0, .int 0, .int 0, .int 0, .ref b1, .null, .null, .null, .null, .null, .null, .null, .null, .null, .null, .null, .null, .null])), (b1, .inl (G.2 0, 8, .inl (upd (upd (upd (upd (upd (upd (upd (upd (fun _ => 0) 0 1) 1 1) 2 1) 3 1) 4 1) 5 1) 6 1) 7 1))), (b2, .inl (G.2 0, 8, .inl (upd (upd (upd (upd (upd (upd (upd (fun _ => 0) 0 1) 1 1) 2 1) 3 1) 4 1) 5 1) 6 1)))]) rfl ?_
  refine j_dup X d_Md_init_80 rfl ?_
  refine j_bipush (v := 7) X d_Md_init_81 (by decide) ?_
  refine j_iconst (v := 1) X d_Md_init_83 (by decide) ?_
  refine j_iast X 2 rfl (vp_in_nI (n := 7) (by decide) (by decide)) d_Md_init_84 ?_
  refine j_eqw (ws' := [(a, .inr (4, [.int 0, .int 0, .int 0, .int 0, .ref b1, .null, .null, .null, .null, .null, .null, .null, .null, .null, .null, .null, .null, .null])), (b1, .inl (G.2 0, 8, .inl (upd (upd (upd (upd (upd (upd (upd (upd (fun _ => 0) 0 1) 1 1) 2 1) 3 1) 4 1) 5 1) 6 1) 7 1))), (b2, .inl (G.2 0, 8, .inl (upd (upd (upd (upd (upd (upd (upd (upd (fun _ => 0) 0 1) 1 1) 2 1) 3 1) 4 1) 5 1) 6 1) 7 1)))]) rfl ?_
  refine j_putF X i_Md t_Md t_Md_ok n_Md 0 rfl rfl 5 (by decide) fl_Md_13 rfl hnm rfl rfl rfl rfl (Nat.le_of_ble_eq_true rfl) d_Md_init_85 ?_
  refine j_eqw (ws' := [(a, .inr (4, [.int 0, .int 0, .int 0, .int 0, .ref b1, .ref b2, .null, .null, .null, .null, .null, .null, .null, .null, .null, .null, .null, .null])), (b1, .inl (G.2 0, 8, .inl (upd (upd (upd (upd (upd (upd (upd (upd (fun _ => 0) 0 1) 1 1) 2 1) 3 1) 4 1) 5 1) 6 1) 7 1))), (b2, .inl (G.2 0, 8, .inl (upd (upd (upd (upd (upd (upd (upd (upd (fun _ => 0) 0 1) 1 1) 2 1) 3 1) 4 1) 5 1) 6 1) 7 1)))]) rfl ?_
  refine j_aload_n X d_Md_init_88 rfl ?_
  refine j_bipush (v := 8) X d_Md_init_89 (by decide) ?_
  refine j_newi X (by decide) rfl (by decide) (Nat.le_of_ble_eq_true rfl) (Nat.le_of_ble_eq_true rfl) d_Md_init_91 (fun b3 => ?_)
  refine j_eqw (ws' := [(a, .inr (4, [.int 0, .int 0, .int 0, .int 0, .ref b1, .ref b2, .null, .null, .null, .null, .null, .null, .null, .null, .null, .null, .null, .null])), (b1, .inl (G.2 0, 8, .inl (upd (upd (upd (upd (upd (upd (upd (upd (fun _ => 0) 0 1) 1 1) 2 1) 3 1) 4 1) 5 1) 6 1) 7 1))), (b2, .inl (G.2 0, 8, .inl (upd (upd (upd (upd (upd (upd (upd (upd (fun _ => 0) 0 1) 1 1) 2 1) 3 1) 4 1) 5 1) 6 1) 7 1))), (b3, .inl (G.2 0, 8, .inl (fun _ => 0)))]) rfl ?_
  refine j_putF X i_Md t_Md t_Md_ok n_Md 0 rfl rfl 6 (by decide) fl_Md_16 rfl hnm rfl rfl rfl rfl (Nat.le_of_ble_eq_true rfl) d_Md_init_93 ?_
  refine j_eqw (ws' := [(a, .inr (4, [.int 0, .int 0, .int 0, .int 0, .ref b1, .ref b2, .ref b3, .null, .null, .null, .null, .null, .null, .null, .null, .null, .null, .null])), (b1, .inl (G.2 0, 8, .inl (upd (upd (upd (upd (upd (upd (upd (upd (fun _ => 0) 0 1) 1 1) 2 1) 3 1) 4 1) 5 1) 6 1) 7 1))), (b2, .inl (G.2 0, 8, .inl (upd (upd (upd (upd (upd (upd (upd (upd (fun _ => 0) 0 1) 1 1) 2 1) 3 1) 4 1) 5 1) 6 1) 7 1))), (b3, .inl (G.2 0, 8, .inl (fun _ => 0)))]) rfl ?_
  refine j_aload_n X d_Md_init_96 rfl ?_
  refine j_bipush (v := 8) X d_Md_init_97 (by decide) ?_
  refine j_newz X (by decide) rfl (by decide) (Nat.le_of_ble_eq_true rfl) (Nat.le_of_ble_eq_true rfl) d_Md_init_99 (fun b4 => ?_)
  refine j_eqw (ws' := [(a, .inr (4, [.int 0, .int 0, .int 0, .int 0, .ref b1, .ref b2, .ref b3, .null, .null, .null, .null, .null, .null, .null, .null, .null, .null, .null])), (b1, .inl (G.2 0, 8, .inl (upd (upd (upd (upd (upd (upd (upd (upd (fun _ => 0) 0 1) 1 1) 2 1) 3 1) 4 1) 5 1) 6 1) 7 1))), (b2, .inl (G.2 0, 8, .inl (upd (upd (upd (upd (upd (upd (upd (upd (fun _ => 0) 0 1) 1 1) 2 1) 3 1) 4 1) 5 1) 6 1) 7 1))), (b3, .inl (G.2 0, 8, .inl (fun _ => 0))), (b4, .inl (G.2 1, 8, .inl (fun _ => 0)))]) rfl ?_
  refine j_putF X i_Md t_Md t_Md_ok n_Md 0 rfl rfl 7 (by decide) fl_Md_19 rfl hnm rfl rfl rfl rfl (Nat.le_of_ble_eq_true rfl) d_Md_init_101 ?_
  refine j_eqw (ws' := [(a, .inr (4, [.int 0, .int 0, .int 0, .int 0, .ref b1, .ref b2, .ref b3, .ref b4, .null, .null, .null, .null, .null, .null, .null, .null, .null, .null])), (b1, .inl (G.2 0, 8, .inl (upd (upd (upd (upd (upd (upd (upd (upd (fun _ => 0) 0 1) 1 1) 2 1) 3 1) 4 1) 5 1) 6 1) 7 1))), (b2, .inl (G.2 0, 8, .inl (upd (upd (upd (upd (upd (upd (upd (upd (fun _ => 0) 0 1) 1 1) 2 1) 3 1) 4 1) 5 1) 6 1) 7 1))), (b3, .inl (G.2 0, 8, .inl (fun _ => 0))), (b4, .inl (G.2 1, 8, .inl (fun _ => 0)))]) rfl ?_
  refine j_aload_n X d_Md_init_104 rfl ?_
  refine j_bipush (v := 8) X d_Md_init_105 (by decide) ?_
  refine j_newz X (by decide) rfl (by decide) (Nat.le_of_ble_eq_true rfl) (Nat.le_of_ble_eq_true rfl) d_Md_init_107 (fun b5 => ?_)
  refine j_eqw (ws' := [(a, .inr (4, [.int 0, .int 0, .int 0, .int 0, .ref b1, .ref b2, .ref b3, .ref b4, .null, .null, .null, .null, .null, .null, .null, .null, .null, .null])), (b1, .inl (G.2 0, 8, .inl (upd (upd (upd (upd (upd (upd (upd (upd (fun _ => 0) 0 1) 1 1) 2 1) 3 1) 4 1) 5 1) 6 1) 7 1))), (b2, .inl (G.2 0, 8, .inl (upd (upd (upd (upd (upd (upd (upd (upd (fun _ => 0) 0 1) 1 1) 2 1) 3 1) 4 1) 5 1) 6 1) 7 1))), (b3, .inl (G.2 0, 8, .inl (fun _ => 0))), (b4, .inl (G.2 1, 8, .inl (fun _ => 0))), (b5, .inl (G.2 1, 8, .inl (fun _ => 0)))]) rfl ?_
  refine j_putF X i_Md t_Md t_Md_ok n_Md 0 rfl rfl 8 (by decide) fl_Md_23 rfl hnm rfl rfl rfl rfl (Nat.le_of_ble_eq_true rfl) d_Md_init_109 ?_
  refine j_eqw (ws' := [(a, .inr (4, [.int 0, .int 0, .int 0, .int 0, .ref b1, .ref b2, .ref b3, .ref b4, .ref b5, .null, .null, .null, .null, .null, .null, .null, .null, .null])), (b1, .inl (G.2 0, 8, .inl (upd (upd (upd (upd (upd (upd (upd (upd (fun _ => 0) 0 1) 1 1) 2 1) 3 1) 4 1) 5 1) 6 1) 7 1))), (b2, .inl (G.2 0, 8, .inl (upd (upd (upd (upd (upd (upd (upd (upd (fun _ => 0) 0 1) 1 1) 2 1) 3 1) 4 1) 5 1) 6 1) 7 1))), (b3, .inl (G.2 0, 8, .inl (fun _ => 0))), (b4, .inl (G.2 1, 8, .inl (fun _ => 0))), (b5, .inl (G.2 1, 8, .inl (fun _ => 0)))]) rfl ?_
  refine j_aload_n X d_Md_init_112 rfl ?_
  refine j_bipush (v := 32) X d_Md_init_113 (by decide) ?_
  refine j_newi X (by decide) rfl (by decide) (Nat.le_of_ble_eq_true rfl) (Nat.le_of_ble_eq_true rfl) d_Md_init_115 (fun b6 => ?_)
  refine j_eqw (ws' := [(a, .inr (4, [.int 0, .int 0, .int 0, .int 0, .ref b1, .ref b2, .ref b3, .ref b4, .ref b5, .null, .null, .null, .null, .null, .null, .null, .null, .null])), (b1, .inl (G.2 0, 8, .inl (upd (upd (upd (upd (upd (upd (upd (upd (fun _ => 0) 0 1) 1 1) 2 1) 3 1) 4 1) 5 1) 6 1) 7 1))), (b2, .inl (G.2 0, 8, .inl (upd (upd (upd (upd (upd (upd (upd (upd (fun _ => 0) 0 1) 1 1) 2 1) 3 1) 4 1) 5 1) 6 1) 7 1))), (b3, .inl (G.2 0, 8, .inl (fun _ => 0))), (b4, .inl (G.2 1, 8, .inl (fun _ => 0))), (b5, .inl (G.2 1, 8, .inl (fun _ => 0))), (b6, .inl (G.2 0, 32, .inl (fun _ => 0)))]) rfl ?_
  refine j_putF X i_Md t_Md t_Md_ok n_Md 0 rfl rfl 9 (by decide) fl_Md_26 rfl hnm rfl rfl rfl rfl (Nat.le_of_ble_eq_true rfl) d_Md_init_117 ?_
  refine j_eqw (ws' := [(a, .inr (4, [.int 0, .int 0, .int 0, .int 0, .ref b1, .ref b2, .ref b3, .ref b4, .ref b5, .ref b6, .null, .null, .null, .null, .null, .null, .null, .null])), (b1, .inl (G.2 0, 8, .inl (upd (upd (upd (upd (upd (upd (upd (upd (fun _ => 0) 0 1) 1 1) 2 1) 3 1) 4 1) 5 1) 6 1) 7 1))), (b2, .inl (G.2 0, 8, .inl (upd (upd (upd (upd (upd (upd (upd (upd (fun _ => 0) 0 1) 1 1) 2 1) 3 1) 4 1) 5 1) 6 1) 7 1))), (b3, .inl (G.2 0, 8, .inl (fun _ => 0))), (b4, .inl (G.2 1, 8, .inl (fun _ => 0))), (b5, .inl (G.2 1, 8, .inl (fun _ => 0))), (b6, .inl (G.2 0, 32, .inl (fun _ => 0)))]) rfl ?_
  refine j_aload_n X d_Md_init_120 rfl ?_
  refine j_iconst (v := 4) X d_Md_init_121 (by decide) ?_
  refine j_newi X (by decide) rfl (by decide) (Nat.le_of_ble_eq_true rfl) (Nat.le_of_ble_eq_true rfl) d_Md_init_122 (fun b7 => ?_)
  refine j_eqw (ws' := [(a, .inr (4, [.int 0, .int 0, .int 0, .int 0, .ref b1, .ref b2, .ref b3, .ref b4, .ref b5, .ref b6, .null, .null, .null, .null, .null, .null, .null, .null])), (b1, .inl (G.2 0, 8, .inl (upd (upd (upd (upd (upd (upd (upd (upd (fun _ => 0) 0 1) 1 1) 2 1) 3 1) 4 1) 5 1) 6 1) 7 1))), (b2, .inl (G.2 0, 8, .inl (upd (upd (upd (upd (upd (upd (upd (upd (fun _ => 0) 0 1) 1 1) 2 1) 3 1) 4 1) 5 1) 6 1) 7 1))), (b3, .inl (G.2 0, 8, .inl (fun _ => 0))), (b4, .inl (G.2 1, 8, .inl (fun _ => 0))), (b5, .inl (G.2 1, 8, .inl (fun _ => 0))), (b6, .inl (G.2 0, 32, .inl (fun _ => 0))), (b7, .inl (G.2 0, 4, .inl (fun _ => 0)))]) rfl ?_
  refine j_putF X i_Md t_Md t_Md_ok n_Md 0 rfl rfl 10 (by decide) fl_Md_29 rfl hnm rfl rfl rfl rfl (Nat.le_of_ble_eq_true rfl) d_Md_init_124 ?_
  refine j_eqw (ws' := [(a, .inr (4, [.int 0, .int 0, .int 0, .int 0, .ref b1, .ref b2, .ref b3, .ref b4, .ref b5, .ref b6, .ref b7, .null, .null, .null, .null, .null, .null, .null])), (b1, .inl (G.2 0, 8, .inl (upd (upd (upd (upd (upd (upd (upd (upd (fun _ => 0) 0 1) 1 1) 2 1) 3 1) 4 1) 5 1) 6 1) 7 1))), (b2, .inl (G.2 0, 8, .inl (upd (upd (upd (upd (upd (upd (upd (upd (fun _ => 0) 0 1) 1 1) 2 1) 3 1) 4 1) 5 1) 6 1) 7 1))), (b3, .inl (G.2 0, 8, .inl (fun _ => 0))), (b4, .inl (G.2 1, 8, .inl (fun _ => 0))), (b5, .inl (G.2 1, 8, .inl (fun _ => 0))), (b6, .inl (G.2 0, 32, .inl (fun _ => 0))), (b7, .inl (G.2 0, 4, .inl (fun _ => 0)))]) rfl ?_
  refine j_aload_n X d_Md_init_127 rfl ?_
  refine j_iconst (v := 4) X d_Md_init_128 (by decide) ?_
  refine j_newi X (by decide) rfl (by decide) (Nat.le_of_ble_eq_true rfl) (Nat.le_of_ble_eq_true rfl) d_Md_init_129 (fun b8 => ?_)
  refine j_eqw (ws' := [(a, .inr (4, [.int 0, .int 0, .int 0, .int 0, .ref b1, .ref b2, .ref b3, .ref b4, .ref b5, .ref b6, .ref b7, .null, .null, .null, .null, .null, .null, .null])), (b1, .inl (G.2 0, 8, .inl (upd (upd (upd (upd (upd (upd (upd (upd (fun _ => 0) 0 1) 1 1) 2 1) 3 1) 4 1) 5 1) 6 1) 7 1))), (b2, .inl (G.2 0, 8, .inl (upd (upd (upd (upd (upd (upd (upd (upd (fun _ => 0) 0 1) 1 1) 2 1) 3 1) 4 1) 5 1) 6 1) 7 1))), (b3, .inl (G.2 0, 8, .inl (fun _ => 0))), (b4, .inl (G.2 1, 8, .inl (fun _ => 0))), (b5, .inl (G.2 1, 8, .inl (fun _ => 0))), (b6, .inl (G.2 0, 32, .inl (fun _ => 0))), (b7, .inl (G.2 0, 4, .inl (fun _ => 0))), (b8, .inl (G.2 0, 4, .inl (fun _ => 0)))]) rfl ?_
  refine j_dup X d_Md_init_131 rfl ?_
  refine j_iconst (v := 0) X d_Md_init_132 (by decide) ?_
  refine j_iconst (v := 1) X d_Md_init_133 (by decide) ?_
  refine j_iast X 8 rfl (vp_in_nI (n := 0) (by decide) (by decide)) d_Md_init_134 ?_
  refine j_eqw (ws' := [(a, .inr (4, [.int 0, .int 0, .int 0, .int 0, .ref b1, .ref b2, .ref b3, .ref b4, .ref b5, .ref b6, .ref b7, .null, .null, .null, .null, .null, .null, .null])), (b1, .inl (G.2 0, 8, .inl (upd (upd (upd (upd (upd (upd (upd (upd (fun _ => 0) 0 1) 1 1) 2 1) 3 1) 4 1) 5 1) 6 1) 7 1))), (b2, .inl (G.2 0, 8, .inl (upd (upd (upd (upd (upd (upd (upd (upd (fun _ => 0) 0 1) 1 1) 2 1) 3 1) 4 1) 5 1) 6 1) 7 1))), (b3, .inl (G.2 0, 8, .inl (fun _ => 0))), (b4, .inl (G.2 1, 8, .inl (fun _ => 0))), (b5, .inl (G.2 1, 8, .inl (fun _ => 0))), (b6, .inl (G.2 0, 32, .inl (fun _ => 0))), (b7, .inl (G.2 0, 4, .inl (fun _ => 0))), (b8, .inl (G.2 0, 4, .inl (upd (fun _ => 0) 0 1)))]) rfl ?_
  refine j_dup X d_Md_init_135 rfl ?_
  refine j_iconst (v := 1) X d_Md_init_136 (by decide) ?_
  refine j_iconst (v := 1) X d_Md_init_137 (by decide) ?_
  refine j_iast X 8 rfl (vp_in_nI (n := 1) (by decide) (by decide)) d_Md_init_138 ?_
  refine j_eqw (ws' := [(a, .inr (4, [.int 0, .int 0, .int 0, .int 0, .ref b1, .ref b2, .ref b3, .ref b4, .ref b5, .ref b6, .ref b7, .null, .null, .null, .null, .null, .null, .null])), (b1, .inl (G.2 0, 8, .inl (upd (upd (upd (upd (upd (upd (upd (upd (fun _ => 0) 0 1) 1 1) 2 1) 3 1) 4 1) 5 1) 6 1) 7 1))), (b2, .inl (G.2 0, 8, .inl (upd (upd (upd (upd (upd (upd (upd (upd (fun _ => 0) 0 1) 1 1) 2 1) 3 1) 4 1) 5 1) 6 1) 7 1))), (b3, .inl (G.2 0, 8, .inl (fun _ => 0))), (b4, .inl (G.2 1, 8, .inl (fun _ => 0))), (b5, .inl (G.2 1, 8, .inl (fun _ => 0))), (b6, .inl (G.2 0, 32, .inl (fun _ => 0))), (b7, .inl (G.2 0, 4, .inl (fun _ => 0))), (b8, .inl (G.2 0, 4, .inl (upd (upd (fun _ => 0) 0 1) 1 1)))]) rfl ?_
  refine j_dup X d_Md_init_139 rfl ?_
  refine j_iconst (v := 2) X d_Md_init_140 (by decide) ?_
  refine j_iconst (v := 1) X d_Md_init_141 (by decide) ?_
  refine j_iast X 8 rfl (vp_in_nI (n := 2) (by decide) (by decide)) d_Md_init_142 ?_
  refine j_eqw (ws' := [(a, .inr (4, [.int 0, .int 0, .int 0, .int 0, .ref b1, .ref b2, .ref b3, .ref b4, .ref b5, .ref b6, .ref b7, .null, .null, .null, .null, .null, .null, .null])), (b1, .inl (G.2 0, 8, .inl (upd (upd (upd (upd (upd (upd (upd (upd (fun _ => 0) 0 1) 1 1) 2 1) 3 1) 4 1) 5 1) 6 1) 7 1))), (b2, .inl (G.2 0, 8, .inl (upd (upd (upd (upd (upd (upd (upd (upd (fun _ => 0) 0 1) 1 1) 2 1) 3 1) 4 1) 5 1) 6 1) 7 1))), (b3, .inl (G.2 0, 8, .inl (fun _ => 0))), (b4, .inl (G.2 1, 8, .inl (fun _ => 0))), (b5, .inl (G.2 1, 8, .inl (fun _ => 0))), (b6, .inl (G.2 0, 32, .inl (fun _ => 0))), (b7, .inl (G.2 0, 4, .inl (fun _ => 0))), (b8, .inl (G.2 0, 4, .inl (upd (upd (upd (fun _ => 0) 0 1) 1 1) 2 1)))]) rfl ?_
  refine j_dup X d_Md_init_143 rfl ?_
  refine j_iconst (v := 3) X d_Md_init_144 (by decide) ?_
  refine j_iconst (v := 1) X d_Md_init_145 (by decide) ?_
  refine j_iast X 8 rfl (vp_in_nI (n := 3) (by decide) (by decide)) d_Md_init_146 ?_
  refine j_eqw (ws' := [(a, .inr (4, [.int 0, .int 0, .int 0, .int 0, .ref b1, .ref b2, .ref b3, .ref b4, .ref b5, .ref b6, .ref b7, .null, .null, .null, .null, .null, .null, .null])), (b1, .inl (G.2 0, 8, .inl (upd (upd (upd (upd (upd (upd (upd (upd (fun _ => 0) 0 1) 1 1) 2 1) 3 1) 4 1) 5 1) 6 1) 7 1))), (b2, .inl (G.2 0, 8, .inl (upd (upd (upd (upd (upd (upd (upd (upd (fun _ => 0) 0 1) 1 1) 2 1) 3 1) 4 1) 5 1) 6 1) 7 1))), (b3, .inl (G.2 0, 8, .inl (fun _ => 0))), (b4, .inl (G.2 1, 8, .inl (fun _ => 0))), (b5, .inl (G.2 1, 8, .inl (fun _ => 0))), (b6, .inl (G.2 0, 32, .inl (fun _ => 0))), (b7, .inl (G.2 0, 4, .inl (fun _ => 0))), (b8, .inl (G.2 0, 4, .inl (upd (upd (upd (upd (fun _ => 0) 0 1) 1 1) 2 1) 3 1)))]) rfl ?_
  refine j_putF X i_Md t_Md t_Md_ok n_Md 0 rfl rfl 11 (by decide) fl_Md_32 rfl hnm rfl rfl rfl rfl (Nat.le_of_ble_eq_true rfl) d_Md_init_147 ?_
  refine j_eqw (ws' := [(a, .inr (4, [.int 0, .int 0, .int 0, .int 0, .ref b1, .ref b2, .ref b3, .ref b4, .ref b5, .ref b6, .ref b7, .ref b8, .null, .null, .null, .null, .null, .null])), (b1, .inl (G.2 0, 8, .inl (upd (upd (upd (upd (upd (upd (upd (upd (fun _ => 0) 0 1) 1 1) 2 1) 3 1) 4 1) 5 1) 6 1) 7 1))), (b2, .inl (G.2 0, 8, .inl (upd (upd (upd (upd (upd (upd (upd (upd (fun _ => 0) 0 1) 1 1) 2 1) 3 1) 4 1) 5 1) 6 1) 7 1))), (b3, .inl (G.2 0, 8, .inl (fun _ => 0))), (b4, .inl (G.2 1, 8, .inl (fun _ => 0))), (b5, .inl (G.2 1, 8, .inl (fun _ => 0))), (b6, .inl (G.2 0, 32, .inl (fun _ => 0))), (b7, .inl (G.2 0, 4, .inl (fun _ => 0))), (b8, .inl (G.2 0, 4, .inl (upd (upd (upd (upd (fun _ => 0) 0 1) 1 1) 2 1) 3 1)))]) rfl ?_
  refine j_aload_n X d_Md_init_150 rfl ?_
  refine j_iconst (v := 4) X d_Md_init_151 (by decide) ?_
  refine j_newi X (by decide) rfl (by decide) (Nat.le_of_ble_eq_true rfl) (Nat.le_of_ble_eq_true rfl) d_Md_init_152 (fun b9 => ?_)
  refine j_eqw (ws' := [(a, .inr (4, [.int 0, .int 0, .int 0, .int 0, .ref b1, .ref b2, .ref b3, .ref b4, .ref b5, .ref b6, .ref b7, .ref b8, .null, .null, .null, .null, .null, .null])), (b1, .inl (G.2 0, 8, .inl (upd (upd (upd (upd (upd (upd (upd (upd (fun _ => 0) 0 1) 1 1) 2 1) 3 1) 4 1) 5 1) 6 1) 7 1))), (b2, .inl (G.2 0, 8, .inl (upd (upd (upd (upd (upd (upd (upd (upd (fun _ => 0) 0 1) 1 1) 2 1) 3 1) 4 1) 5 1) 6 1) 7 1))), (b3, .inl (G.2 0, 8, .inl (fun _ => 0))), (b4, .inl (G.2 1, 8, .inl (fun _ => 0))), (b5, .inl (G.2 1, 8, .inl (fun _ => 0))), (b6, .inl (G.2 0, 32, .inl (fun _ => 0))), (b7, .inl (G.2 0, 4, .inl (fun _ => 0))), (b8, .inl (G.2 0, 4, .inl (upd (upd (upd (upd (fun _ => 0) 0 1) 1 1) 2 1) 3 1))), (b9, .inl (G.2 0, 4, .inl (fun _ => 0)))]) rfl ?_
  refine j_putF X i_Md t_Md t_Md_ok n_Md 0 rfl rfl 12 (by decide) fl_Md_35 rfl hnm rfl rfl rfl rfl (Nat.le_of_ble_eq_true rfl) d_Md_init_154 ?_
  refine j_eqw (ws' := [(a, .inr (4, [.int 0, .int 0, .int 0, .int 0, .ref b1, .ref b2, .ref b3, .ref b4, .ref b5, .ref b6, .ref b7, .ref b8, .ref b9, .null, .null, .null, .null, .null])), (b1, .inl (G.2 0, 8, .inl (upd (upd (upd (upd (upd (upd (upd (upd (fun _ => 0) 0 1) 1 1) 2 1) 3 1) 4 1) 5 1) 6 1) 7 1))), (b2, .inl (G.2 0, 8, .inl (upd (upd (upd (upd (upd (upd (upd (upd (fun _ => 0) 0 1) 1 1) 2 1) 3 1) 4 1) 5 1) 6 1) 7 1))), (b3, .inl (G.2 0, 8, .inl (fun _ => 0))), (b4, .inl (G.2 1, 8, .inl (fun _ => 0))), (b5, .inl (G.2 1, 8, .inl (fun _ => 0))), (b6, .inl (G.2 0, 32, .inl (fun _ => 0))), (b7, .inl (G.2 0, 4, .inl (fun _ => 0))), (b8, .inl (G.2 0, 4, .inl (upd (upd (upd (upd (fun _ => 0) 0 1) 1 1) 2 1) 3 1))), (b9, .inl (G.2 0, 4, .inl (fun _ => 0)))]) rfl ?_
  refine j_aload_n X d_Md_init_157 rfl ?_
  refine j_iconst (v := 4) X d_Md_init_158 (by decide) ?_
  refine j_newz X (by decide) rfl (by decide) (Nat.le_of_ble_eq_true rfl) (Nat.le_of_ble_eq_true rfl) d_Md_init_159 (fun b10 => ?_)
  refine j_eqw (ws' := [(a, .inr (4, [.int 0, .int 0, .int 0, .int 0, .ref b1, .ref b2, .ref b3, .ref b4, .ref b5, .ref b6, .ref b7, .ref b8, .ref b9, .null, .null, .null, .null, .null])), (b1, .inl (G.2 0, 8, .inl (upd (upd (upd (upd (upd (upd (upd (upd (fun _ => 0) 0 1) 1 1) 2 1) 3 1) 4 1) 5 1) 6 1) 7 1))), (b2, .inl (G.2 0, 8, .inl (upd (upd (upd (upd (upd (upd (upd (upd (fun _ => 0) 0 1) 1 1) 2 1) 3 1) 4 1) 5 1) 6 1) 7 1))), (b3, .inl (G.2 0, 8, .inl (fun _ => 0))), (b4, .inl (G.2 1, 8, .inl (fun _ => 0))), (b5, .inl (G.2 1, 8, .inl (fun _ => 0))), (b6, .inl (G.2 0, 32, .inl (fun _ => 0))), (b7, .inl (G.2 0, 4, .inl (fun _ => 0))), (b8, .inl (G.2 0, 4, .inl (upd (upd (upd (upd (fun _ => 0) 0 1) 1 1) 2 1) 3 1))), (b9, .inl (G.2 0, 4, .inl (fun _ => 0))), (b10, .inl (G.2 1, 4, .inl (fun _ => 0)))]) rfl ?_
  refine j_putF X i_Md t_Md t_Md_ok n_Md 0 rfl rfl 13 (by decide) fl_Md_38 rfl hnm rfl rfl rfl rfl (Nat.le_of_ble_eq_true rfl) d_Md_init_161 ?_
  refine j_eqw (ws' := [(a, .inr (4, [.int 0, .int 0, .int 0, .int 0, .ref b1, .ref b2, .ref b3, .ref b4, .ref b5, .ref b6, .ref b7, .ref b8, .ref b9, .ref b10, .null, .null, .null, .null])), (b1, .inl (G.2 0, 8, .inl (upd (upd (upd (upd (upd (upd (upd (upd (fun _ => 0) 0 1) 1 1) 2 1) 3 1) 4 1) 5 1) 6 1) 7 1))), (b2, .inl (G.2 0, 8, .inl (upd (upd (upd (upd (upd (upd (upd (upd (fun _ => 0) 0 1) 1 1) 2 1) 3 1) 4 1) 5 1) 6 1) 7 1))), (b3, .inl (G.2 0, 8, .inl (fun _ => 0))), (b4, .inl (G.2 1, 8, .inl (fun _ => 0))), (b5, .inl (G.2 1, 8, .inl (fun _ => 0))), (b6, .inl (G.2 0, 32, .inl (fun _ => 0))), (b7, .inl (G.2 0, 4, .inl (fun _ => 0))), (b8, .inl (G.2 0, 4, .inl (upd (upd (upd (upd (fun _ => 0) 0 1) 1 1) 2 1) 3 1))), (b9, .inl (G.2 0, 4, .inl (fun _ => 0))), (b10, .inl (G.2 1, 4, .inl (fun _ => 0)))]) rfl ?_
  refine j_aload_n X d_Md_init_164 rfl ?_
  refine j_iconst (v := 4) X d_Md_init_165 (by decide) ?_
  refine j_newi X (by decide) rfl (by decide) (Nat.le_of_ble_eq_true rfl) (Nat.le_of_ble_eq_true rfl) d_Md_init_166 (fun b11 => ?_)
  refine j_eqw (ws' := [(a, .inr (4, [.int 0, .int 0, .int 0, .int 0, .ref b1, .ref b2, .ref b3, .ref b4, .ref b5, .ref b6, .ref b7, .ref b8, .ref b9, .ref b10, .null, .null, .null, .null])), (b1, .inl (G.2 0, 8, .inl (upd (upd (upd (upd (upd (upd (upd (upd (fun _ => 0) 0 1) 1 1) 2 1) 3 1) 4 1) 5 1) 6 1) 7 1))), (b2, .inl (G.2 0, 8, .inl (upd (upd (upd (upd (upd (upd (upd (upd (fun _ => 0) 0 1) 1 1) 2 1) 3 1) 4 1) 5 1) 6 1) 7 1))), (b3, .inl (G.2 0, 8, .inl (fun _ => 0))), (b4, .inl (G.2 1, 8, .inl (fun _ => 0))), (b5, .inl (G.2 1, 8, .inl (fun _ => 0))), (b6, .inl (G.2 0, 32, .inl (fun _ => 0))), (b7, .inl (G.2 0, 4, .inl (fun _ => 0))), (b8, .inl (G.2 0, 4, .inl (upd (upd (upd (upd (fun _ => 0) 0 1) 1 1) 2 1) 3 1))), (b9, .inl (G.2 0, 4, .inl (fun _ => 0))), (b10, .inl (G.2 1, 4, .inl (fun _ => 0))), (b11, .inl (G.2 0, 4, .inl (fun _ => 0)))]) rfl ?_
  refine j_putF X i_Md t_Md t_Md_ok n_Md 0 rfl rfl 14 (by decide) fl_Md_41 rfl hnm rfl rfl rfl rfl (Nat.le_of_ble_eq_true rfl) d_Md_init_168 ?_
  refine j_eqw (ws' := [(a, .inr (4, [.int 0, .int 0, .int 0, .int 0, .ref b1, .ref b2, .ref b3, .ref b4, .ref b5, .ref b6, .ref b7, .ref b8, .ref b9, .ref b10, .ref b11, .null, .null, .null])), (b1, .inl (G.2 0, 8, .inl (upd (upd (upd (upd (upd (upd (upd (upd (fun _ => 0) 0 1) 1 1) 2 1) 3 1) 4 1) 5 1) 6 1) 7 1))), (b2, .inl (G.2 0, 8, .inl (upd (upd (upd (upd (upd (upd (upd (upd (fun _ => 0) 0 1) 1 1) 2 1) 3 1) 4 1) 5 1) 6 1) 7 1))), (b3, .inl (G.2 0, 8, .inl (fun _ => 0))), (b4, .inl (G.2 1, 8, .inl (fun _ => 0))), (b5, .inl (G.2 1, 8, .inl (fun _ => 0))), (b6, .inl (G.2 0, 32, .inl (fun _ => 0))), (b7, .inl (G.2 0, 4, .inl (fun _ => 0))), (b8, .inl (G.2 0, 4, .inl (upd (upd (upd (upd (fun _ => 0) 0 1) 1 1) 2 1) 3 1))), (b9, .inl (G.2 0, 4, .inl (fun _ => 0))), (b10, .inl (G.2 1, 4, .inl (fun _ => 0))), (b11, .inl (G.2 0, 4, .inl (fun _ => 0)))]) rfl ?_
  refine j_aload_n X d_Md_init_171 rfl ?_
  refine j_iconst (v := 4) X d_Md_init_172 (by decide) ?_
  refine j_newi X (by decide) rfl (by decide) (Nat.le_of_ble_eq_true rfl) (Nat.le_of_ble_eq_true rfl) d_Md_init_173 (fun b12 => ?_)
  refine j_eqw (ws' := [(a, .inr (4, [.int 0, .int 0, .int 0, .int 0, .ref b1, .ref b2, .ref b3, .ref b4, .ref b5, .ref b6, .ref b7, .ref b8, .ref b9, .ref b10, .ref b11, .null, .null, .null])), (b1, .inl (G.2 0, 8, .inl (upd (upd (upd (upd (upd (upd (upd (upd (fun _ => 0) 0 1) 1 1) 2 1) 3 1) 4 1) 5 1) 6 1) 7 1))), (b2, .inl (G.2 0, 8, .inl (upd (upd (upd (upd (upd (upd (upd (upd (fun _ => 0) 0 1) 1 1) 2 1) 3 1) 4 1) 5 1) 6 1) 7 1))), (b3, .inl (G.2 0, 8, .inl (fun _ => 0))), (b4, .inl (G.2 1, 8, .inl (fun _ => 0))), (b5, .inl (G.2 1, 8, .inl (fun _ => 0))), (b6, .inl (G.2 0, 32, .inl (fun _ => 0))), (b7, .inl (G.2 0, 4, .inl (fun _ => 0))), (b8, .inl (G.2 0, 4, .inl (upd (upd (upd (upd (fun _ => 0) 0 1) 1 1) 2 1) 3 1))), (b9, .inl (G.2 0, 4, .inl (fun _ => 0))), (b10, .inl (G.2 1, 4, .inl (fun _ => 0))), (b11, .inl (G.2 0, 4, .inl (fun _ => 0))), (b12, .inl (G.2 0, 4, .inl (fun _ => 0)))]) rfl ?_
  refine j_putF X i_Md t_Md t_Md_ok n_Md 0 rfl rfl 15 (by decide) fl_Md_44 rfl hnm rfl rfl rfl rfl (Nat.le_of_ble_eq_true rfl) d_Md_init_175 ?_
  refine j_eqw (ws' := [(a, .inr (4, [.int 0, .int 0, .int 0, .int 0, .ref b1, .ref b2, .ref b3, .ref b4, .ref b5, .ref b6, .ref b7, .ref b8, .ref b9, .ref b10, .ref b11, .ref b12, .null, .null])), (b1, .inl (G.2 0, 8, .inl (upd (upd (upd (upd (upd (upd (upd (upd (fun _ => 0) 0 1) 1 1) 2 1) 3 1) 4 1) 5 1) 6 1) 7 1))), (b2, .inl (G.2 0, 8, .inl (upd (upd (upd (upd (upd (upd (upd (upd (fun _ => 0) 0 1) 1 1) 2 1) 3 1) 4 1) 5 1) 6 1) 7 1))), (b3, .inl (G.2 0, 8, .inl (fun _ => 0))), (b4, .inl (G.2 1, 8, .inl (fun _ => 0))), (b5, .inl (G.2 1, 8, .inl (fun _ => 0))), (b6, .inl (G.2 0, 32, .inl (fun _ => 0))), (b7, .inl (G.2 0, 4, .inl (fun _ => 0))), (b8, .inl (G.2 0, 4, .inl (upd (upd (upd (upd (fun _ => 0) 0 1) 1 1) 2 1) 3 1))), (b9, .inl (G.2 0, 4, .inl (fun _ => 0))), (b10, .inl (G.2 1, 4, .inl (fun _ => 0))), (b11, .inl (G.2 0, 4, .inl (fun _ => 0))), (b12, .inl (G.2 0, 4, .inl (fun _ => 0)))]) rfl ?_
  refine j_aload_n X d_Md_init_178 rfl ?_
  refine j_iconst (v := 4) X d_Md_init_179 (by decide) ?_
  refine j_newi X (by decide) rfl (by decide) (Nat.le_of_ble_eq_true rfl) (Nat.le_of_ble_eq_true rfl) d_Md_init_180 (fun b13 => ?_)
  refine j_eqw (ws' := [(a, .inr (4, [.int 0, .int 0, .int 0, .int 0, .ref b1, .ref b2, .ref b3, .ref b4, .ref b5, .ref b6, .ref b7, .ref b8, .ref b9, .ref b10, .ref b11, .ref b12, .null, .null])), (b1, .inl (G.2 0, 8, .inl (upd (upd (upd (upd (upd (upd (upd (upd (fun _ => 0) 0 1) 1 1) 2 1) 3 1) 4 1) 5 1) 6 1) 7 1))), (b2, .inl (G.2 0, 8, .inl (upd (upd (upd (upd (upd (upd (upd (upd (fun _ => 0) 0 1) 1 1) 2 1) 3 1) 4 1) 5 1) 6 1) 7 1))), (b3, .inl (G.2 0, 8, .inl (fun _ => 0))), (b4, .inl (G.2 1, 8, .inl (fun _ => 0))), (b5, .inl (G.2 1, 8, .inl (fun _ => 0))), (b6, .inl (G.2 0, 32, .inl (fun _ => 0))), (b7, .inl (G.2 0, 4, .inl (fun _ => 0))), (b8, .inl (G.2 0, 4, .inl (upd (upd (upd (upd (fun _ => 0) 0 1) 1 1) 2 1) 3 1))), (b9, .inl (G.2 0, 4, .inl (fun _ => 0))), (b10, .inl (G.2 1, 4, .inl (fun _ => 0))), (b11, .inl (G.2 0, 4, .inl (fun _ => 0))), (b12, .inl (G.2 0, 4, .inl (fun _ => 0))), (b13, .inl (G.2 0, 4, .inl (fun _ => 0)))]) rfl ?_
  refine j_dup X d_Md_init_182 rfl ?_
  refine j_iconst (v := 0) X d_Md_init_183 (by decide) ?_
  refine j_iconst (v := -1) X d_Md_init_184 (by decide) ?_
  refine j_iast X 13 rfl (vp_in_nI (n := 0) (by decide) (by decide)) d_Md_init_185 ?_
  refine j_eqw (ws' := [(a, .inr (4, [.int 0, .int 0, .int 0, .int 0, .ref b1, .ref b2, .ref b3, .ref b4, .ref b5, .ref b6, .ref b7, .ref b8, .ref b9, .ref b10, .ref b11, .ref b12, .null, .null])), (b1, .inl (G.2 0, 8, .inl (upd (upd (upd (upd (upd (upd (upd (upd (fun _ => 0) 0 1) 1 1) 2 1) 3 1) 4 1) 5 1) 6 1) 7 1))), (b2, .inl (G.2 0, 8, .inl (upd (upd (upd (upd (upd (upd (upd (upd (fun _ => 0) 0 1) 1 1) 2 1) 3 1) 4 1) 5 1) 6 1) 7 1))), (b3, .inl (G.2 0, 8, .inl (fun _ => 0))), (b4, .inl (G.2 1, 8, .inl (fun _ => 0))), (b5, .inl (G.2 1, 8, .inl (fun _ => 0))), (b6, .inl (G.2 0, 32, .inl (fun _ => 0))), (b7, .inl (G.2 0, 4, .inl (fun _ => 0))), (b8, .inl (G.2 0, 4, .inl (upd (upd (upd (upd (fun _ => 0) 0 1) 1 1) 2 1) 3 1))), (b9, .inl (G.2 0, 4, .inl (fun _ => 0))), (b10, .inl (G.2 1, 4, .inl (fun _ => 0))), (b11, .inl (G.2 0, 4, .inl (fun _ => 0))), (b12, .inl (G.2 0, 4, .inl (fun _ => 0))), (b13, .inl (G.2 0, 4, .inl (upd (fun _ => 0) 0 (-1))))]) rfl ?_
  refine j_dup X d_Md_init_186 rfl ?_
  refine j_iconst (v := 1) X d_Md_init_187 (by decide) ?_
  refine j_iconst (v := -1) X d_Md_init_188 (by decide) ?_
  refine j_iast X 13 rfl (vp_in_nI (n := 1) (by decide) (by decide)) d_Md_init_189 ?_
  refine j_eqw (ws' := [(a, .inr (4, [.int 0, .int 0, .int 0, .int 0, .ref b1, .ref b2, .ref b3, .ref b4, .ref b5, .ref b6, .ref b7, .ref b8, .ref b9, .ref b10, .ref b11, .ref b12, .null, .null])), (b1, .inl (G.2 0, 8, .inl (upd (upd (upd (upd (upd (upd (upd (upd (fun _ => 0) 0 1) 1 1) 2 1) 3 1) 4 1) 5 1) 6 1) 7 1))), (b2, .inl (G.2 0, 8, .inl (upd (upd (upd (upd (upd (upd (upd (upd (fun _ => 0) 0 1) 1 1) 2 1) 3 1) 4 1) 5 1) 6 1) 7 1))), (b3, .inl (G.2 0, 8, .inl (fun _ => 0))), (b4, .inl (G.2 1, 8, .inl (fun _ => 0))), (b5, .inl (G.2 1, 8, .inl (fun _ => 0))), (b6, .inl (G.2 0, 32, .inl (fun _ => 0))), (b7, .inl (G.2 0, 4, .inl (fun _ => 0))), (b8, .inl (G.2 0, 4, .inl (upd (upd (upd (upd (fun _ => 0) 0 1) 1 1) 2 1) 3 1))), (b9, .inl (G.2 0, 4, .inl (fun _ => 0))), (b10, .inl (G.2 1, 4, .inl (fun _ => 0))), (b11, .inl (G.2 0, 4, .inl (fun _ => 0))), (b12, .inl (G.2 0, 4, .inl (fun _ => 0))), (b13, .inl (G.2 0, 4, .inl (upd (upd (fun _ => 0) 0 (-1)) 1 (-1))))]) rfl ?_
  refine j_dup X d_Md_init_190 rfl ?_
  refine j_iconst (v := 2) X d_Md_init_191 (by decide) ?_
  refine j_iconst (v := -1) X d_Md_init_192 (by decide) ?_
  refine j_iast X 13 rfl (vp_in_nI (n := 2) (by decide) (by decide)) d_Md_init_193 ?_
  refine j_eqw (ws' := [(a, .inr (4, [.int 0, .int 0, .int 0, .int 0, .ref b1, .ref b2, .ref b3, .ref b4, .ref b5, .ref b6, .ref b7, .ref b8, .ref b9, .ref b10, .ref b11, .ref b12, .null, .null])), (b1, .inl (G.2 0, 8, .inl (upd (upd (upd (upd (upd (upd (upd (upd (fun _ => 0) 0 1) 1 1) 2 1) 3 1) 4 1) 5 1) 6 1) 7 1))), (b2, .inl (G.2 0, 8, .inl (upd (upd (upd (upd (upd (upd (upd (upd (fun _ => 0) 0 1) 1 1) 2 1) 3 1) 4 1) 5 1) 6 1) 7 1))), (b3, .inl (G.2 0, 8, .inl (fun _ => 0))), (b4, .inl (G.2 1, 8, .inl (fun _ => 0))), (b5, .inl (G.2 1, 8, .inl (fun _ => 0))), (b6, .inl (G.2 0, 32, .inl (fun _ => 0))), (b7, .inl (G.2 0, 4, .inl (fun _ => 0))), (b8, .inl (G.2 0, 4, .inl (upd (upd (upd (upd (fun _ => 0) 0 1) 1 1) 2 1) 3 1))), (b9, .inl (G.2 0, 4, .inl (fun _ => 0))), (b10, .inl (G.2 1, 4, .inl (fun _ => 0))), (b11, .inl (G.2 0, 4, .inl (fun _ => 0))), (b12, .inl (G.2 0, 4, .inl (fun _ => 0))), (b13, .inl (G.2 0, 4, .inl (upd (upd (upd (fun _ => 0) 0 (-1)) 1 (-1)) 2 (-1))))]) rfl ?_
  refine j_dup X d_Md_init_194 rfl ?_
  refine j_iconst (v := 3) X d_Md_init_195 (by decide) ?_
  refine j_iconst (v := -1) X d_Md_init_196 (by decide) ?_
  refine j_iast X 13 rfl (vp_in_nI (n := 3) (by decide) (by decide)) d_Md_init_197 ?_
  refine j_eqw (ws' := [(a, .inr (4, [.int 0, .int 0, .int 0, .int 0, .ref b1, .ref b2, .ref b3, .ref b4, .ref b5, .ref b6, .ref b7, .ref b8, .ref b9, .ref b10, .ref b11, .ref b12, .null, .null])), (b1, .inl (G.2 0, 8, .inl (upd (upd (upd (upd (upd (upd (upd (upd (fun _ => 0) 0 1) 1 1) 2 1) 3 1) 4 1) 5 1) 6 1) 7 1))), (b2, .inl (G.2 0, 8, .inl (upd (upd (upd (upd (upd (upd (upd (upd (fun _ => 0) 0 1) 1 1) 2 1) 3 1) 4 1) 5 1) 6 1) 7 1))), (b3, .inl (G.2 0, 8, .inl (fun _ => 0))), (b4, .inl (G.2 1, 8, .inl (fun _ => 0))), (b5, .inl (G.2 1, 8, .inl (fun _ => 0))), (b6, .inl (G.2 0, 32, .inl (fun _ => 0))), (b7, .inl (G.2 0, 4, .inl (fun _ => 0))), (b8, .inl (G.2 0, 4, .inl (upd (upd (upd (upd (fun _ => 0) 0 1) 1 1) 2 1) 3 1))), (b9, .inl (G.2 0, 4, .inl (fun _ => 0))), (b10, .inl (G.2 1, 4, .inl (fun _ => 0))), (b11, .inl (G.2 0, 4, .inl (fun _ => 0))), (b12, .inl (G.2 0, 4, .inl (fun _ => 0))), (b13, .inl (G.2 0, 4, .inl (upd (upd (upd (upd (fun _ => 0) 0 (-1)) 1 (-1)) 2 (-1)) 3 (-1))))]) rfl ?_
  refine j_putF X i_Md t_Md t_Md_ok n_Md 0 rfl rfl 16 (by decide) fl_Md_47 rfl hnm rfl rfl rfl rfl (Nat.le_of_ble_eq_true rfl) d_Md_init_198 ?_
  refine j_eqw (ws' := [(a, .inr (4, [.int 0, .int 0, .int 0, .int 0, .ref b1, .ref b2, .ref b3, .ref b4, .ref b5, .ref b6, .ref b7, .ref b8, .ref b9, .ref b10, .ref b11, .ref b12, .ref b13, .null])), (b1, .inl (G.2 0, 8, .inl (upd (upd (upd (upd (upd (upd (upd (upd (fun _ => 0) 0 1) 1 1) 2 1) 3 1) 4 1) 5 1) 6 1) 7 1))), (b2, .inl (G.2 0, 8, .inl (upd (upd (upd (upd (upd (upd (upd (upd (fun _ => 0) 0 1) 1 1) 2 1) 3 1) 4 1) 5 1) 6 1) 7 1))), (b3, .inl (G.2 0, 8, .inl (fun _ => 0))), (b4, .inl (G.2 1, 8, .inl (fun _ => 0))), (b5, .inl (G.2 1, 8, .inl (fun _ => 0))), (b6, .inl (G.2 0, 32, .inl (fun _ => 0))), (b7, .inl (G.2 0, 4, .inl (fun _ => 0))), (b8, .inl (G.2 0, 4, .inl (upd (upd (upd (upd (fun _ => 0) 0 1) 1 1) 2 1) 3 1))), (b9, .inl (G.2 0, 4, .inl (fun _ => 0))), (b10, .inl (G.2 1, 4, .inl (fun _ => 0))), (b11, .inl (G.2 0, 4, .inl (fun _ => 0))), (b12, .inl (G.2 0, 4, .inl (fun _ => 0))), (b13, .inl (G.2 0, 4, .inl (upd (upd (upd (upd (fun _ => 0) 0 (-1)) 1 (-1)) 2 (-1)) 3 (-1))))]) rfl ?_
  refine j_aload_n X d_Md_init_201 rfl ?_
  refine j_bipush (v := 48) X d_Md_init_202 (by decide) ?_
  refine j_newi X (by decide) rfl (by decide) (Nat.le_of_ble_eq_true rfl) (Nat.le_of_ble_eq_true rfl) d_Md_init_204 (fun b14 => ?_)
  refine j_eqw (ws' := [(a, .inr (4, [.int 0, .int 0, .int 0, .int 0, .ref b1, .ref b2, .ref b3, .ref b4, .ref b5, .ref b6, .ref b7, .ref b8, .ref b9, .ref b10, .ref b11, .ref b12, .ref b13, .null])), (b1, .inl (G.2 0, 8, .inl (upd (upd (upd (upd (upd (upd (upd (upd (fun _ => 0) 0 1) 1 1) 2 1) 3 1) 4 1) 5 1) 6 1) 7 1))), (b2, .inl (G.2 0, 8, .inl (upd (upd (upd (upd (upd (upd (upd (upd (fun _ => 0) 0 1) 1 1) 2 1) 3 1) 4 1) 5 1) 6 1) 7 1))), (b3, .inl (G.2 0, 8, .inl (fun _ => 0))), (b4, .inl (G.2 1, 8, .inl (fun _ => 0))), (b5, .inl (G.2 1, 8, .inl (fun _ => 0))), (b6, .inl (G.2 0, 32, .inl (fun _ => 0))), (b7, .inl (G.2 0, 4, .inl (fun _ => 0))), (b8, .inl (G.2 0, 4, .inl (upd (upd (upd (upd (fun _ => 0) 0 1) 1 1) 2 1) 3 1))), (b9, .inl (G.2 0, 4, .inl (fun _ => 0))), (b10, .inl (G.2 1, 4, .inl (fun _ => 0))), (b11, .inl (G.2 0, 4, .inl (fun _ => 0))), (b12, .inl (G.2 0, 4, .inl (fun _ => 0))), (b13, .inl (G.2 0, 4, .inl (upd (upd (upd (upd (fun _ => 0) 0 (-1)) 1 (-1)) 2 (-1)) 3 (-1)))), (b14, .inl (G.2 0, 48, .inl (fun _ => 0)))]) rfl ?_
  refine j_putF X i_Md t_Md t_Md_ok n_Md 0 rfl rfl 17 (by decide) fl_Md_50 rfl hnm rfl rfl rfl rfl (Nat.le_of_ble_eq_true rfl) d_Md_init_206 ?_
  refine j_eqw (ws' := [(a, .inr (4, [.int 0, .int 0, .int 0, .int 0, .ref b1, .ref b2, .ref b3, .ref b4, .ref b5, .ref b6, .ref b7, .ref b8, .ref b9, .ref b10, .ref b11, .ref b12, .ref b13, .ref b14])), (b1, .inl (G.2 0, 8, .inl (upd (upd (upd (upd (upd (upd (upd (upd (fun _ => 0) 0 1) 1 1) 2 1) 3 1) 4 1) 5 1) 6 1) 7 1))), (b2, .inl (G.2 0, 8, .inl (upd (upd (upd (upd (upd (upd (upd (upd (fun _ => 0) 0 1) 1 1) 2 1) 3 1) 4 1) 5 1) 6 1) 7 1))), (b3, .inl (G.2 0, 8, .inl (fun _ => 0))), (b4, .inl (G.2 1, 8, .inl (fun _ => 0))), (b5, .inl (G.2 1, 8, .inl (fun _ => 0))), (b6, .inl (G.2 0, 32, .inl (fun _ => 0))), (b7, .inl (G.2 0, 4, .inl (fun _ => 0))), (b8, .inl (G.2 0, 4, .inl (upd (upd (upd (upd (fun _ => 0) 0 1) 1 1) 2 1) 3 1))), (b9, .inl (G.2 0, 4, .inl (fun _ => 0))), (b10, .inl (G.2 1, 4, .inl (fun _ => 0))), (b11, .inl (G.2 0, 4, .inl (fun _ => 0))), (b12, .inl (G.2 0, 4, .inl (fun _ => 0))), (b13, .inl (G.2 0, 4, .inl (upd (upd (upd (upd (fun _ => 0) 0 (-1)) 1 (-1)) 2 (-1)) 3 (-1)))), (b14, .inl (G.2 0, 48, .inl (fun _ => 0)))]) rfl ?_
  refine j_cong (y' := (8, .inl (S0 0))) 1 rfl (cell_i (fun i hi => by rcases lt8 hi with rfl | rfl | rfl | rfl | rfl | rfl | rfl | rfl <;> rfl)) ?_
  refine j_cong (y' := (8, .inl (S0 1))) 2 rfl (cell_i (fun i hi => by rcases lt8 hi with rfl | rfl | rfl | rfl | rfl | rfl | rfl | rfl <;> rfl)) ?_
  refine j_cong (y' := (4, .inl (S0 11))) 8 rfl (cell_i (fun i hi => by rcases lt4 hi with rfl | rfl | rfl | rfl <;> rfl)) ?_
  refine j_cong (y' := (4, .inl (S0 15))) 13 rfl (cell_i (fun i hi => by rcases lt4 hi with rfl | rfl | rfl | rfl <;> rfl)) ?_
  exact j_vret X ⟨fun k => [a, b1, b2, b3, b4, b5, b6, b7, b8, b9, b10, b11, b12, b13, b14].getD k 0, fun _ => 0, rfl, by unfold wM; rw [oft_S0, rowF_S0]; rfl⟩ d_Md_init_209
end
section
/-! ===== the relations are functions, and keep the invariant ===== -/
theorem nI_inj8 {i j : Nat} (hi : i < 8) (hj : j < 8) (h : nI i = nI j) : i = j := (nI_eq (by omega) (by omega)).mp h
theorem nI_inj4 {i j : Nat} (hi : i < 4) (hj : j < 4) (h : nI i = nI j) : i = j := (nI_eq (by omega) (by omega)).mp h
theorem PSet.fn {S : St} {t s p o r r' : Int32} {S1 S2 : St} (h1 : PSet S t s p o r S1) (h2 : PSet S t s p o r' S2) : r = r' ∧ S1 = S2 := by
  rcases h1 with ⟨j, hj, rfl, hk, rfl, rfl⟩ | ⟨hk, rfl, rfl⟩
  · rcases h2 with ⟨i, hi, e, -, rfl, rfl⟩ | ⟨hk2, -, -⟩
    · rw [nI_inj8 hj hi e]; exact ⟨rfl, rfl⟩
    · exact absurd hk hk2
  · rcases h2 with ⟨i, hi, e, hk2, -, -⟩ | ⟨-, rfl, rfl⟩
    · exact absurd hk2 hk
    · exact ⟨rfl, rfl⟩
theorem PTurn.fn {S : St} {t on r r' : Int32} {S1 S2 : St} (h1 : PTurn S t on r S1) (h2 : PTurn S t on r' S2) : r = r' ∧ S1 = S2 := by
  rcases h1 with ⟨j, hj, e1, hk, rfl, rfl⟩ | ⟨hk, rfl, rfl⟩
  · rcases h2 with ⟨i, hi, e, -, rfl, rfl⟩ | ⟨hk2, -, -⟩
    · rw [nI_inj8 hj hi (e1.symm.trans e)]; exact ⟨rfl, rfl⟩
    · exact absurd (hk2 j hj e1) hk
  · rcases h2 with ⟨i, hi, e, hk2, -, -⟩ | ⟨-, rfl, rfl⟩
    · exact absurd (hk i hi e) hk2
    · exact ⟨rfl, rfl⟩
theorem PGate.fn {S : St} {g m d r r' : Int32} {S1 S2 : St} (h1 : PGate S g m d r S1) (h2 : PGate S g m d r' S2) : r = r' ∧ S1 = S2 := by
  rcases h1 with ⟨j, hj, rfl, hk, rfl, rfl⟩ | ⟨hk, rfl, rfl⟩
  · rcases h2 with ⟨i, hi, e, -, rfl, rfl⟩ | ⟨hk2, -, -⟩
    · rw [nI_inj4 hj hi e]; exact ⟨rfl, rfl⟩
    · exact absurd hk hk2
  · rcases h2 with ⟨i, hi, e, hk2, -, -⟩ | ⟨-, rfl, rfl⟩
    · exact absurd hk2 hk
    · exact ⟨rfl, rfl⟩
theorem PClear.fn {S : St} {m r r' : Int32} {S1 S2 : St} (h1 : PClear S m r S1) (h2 : PClear S m r' S2) : r = r' ∧ S1 = S2 := by
  rcases h1 with ⟨hk, rfl, rfl⟩ | ⟨hk, rfl, rfl⟩
  · rcases h2 with ⟨-, rfl, rfl⟩ | ⟨hk2, -, -⟩
    · exact ⟨rfl, rfl⟩
    · exact absurd hk hk2
  · rcases h2 with ⟨hk2, -, -⟩ | ⟨-, rfl, rfl⟩
    · exact absurd hk2 hk
    · exact ⟨rfl, rfl⟩
theorem okN_of {k : Nat} (h : k ≤ 20000) : okN (nI k) := ⟨nI_pos (by omega), nI_le (b := 20000) h (by decide)⟩
theorem nI_injN {i j : Nat} (hi : i ≤ 20000) (hj : j ≤ 20000) (h : nI i = nI j) : i = j := (nI_eq (by omega) (by omega)).mp h
theorem PAdv.fn {S : St} {n r r' : Int32} {S1 S2 : St} (h1 : PAdv S n r S1) (h2 : PAdv S n r' S2) : r = r' ∧ S1 = S2 := by
  rcases h1 with ⟨j, hj, rfl, rfl, rfl⟩ | ⟨hk, rfl, rfl⟩
  · rcases h2 with ⟨i, hi, e, rfl, rfl⟩ | ⟨hk2, -, -⟩
    · rw [nI_injN hj hi e]; exact ⟨rfl, rfl⟩
    · exact absurd (okN_of hj) hk2
  · rcases h2 with ⟨i, hi, e, -, -⟩ | ⟨-, rfl, rfl⟩
    · rw [e] at hk; exact absurd (okN_of hi) hk
    · exact ⟨rfl, rfl⟩
theorem PNext.fn {S : St} {n r r' : Int32} {S1 S2 : St} (h1 : PNext S n r S1) (h2 : PNext S n r' S2) : r = r' ∧ S1 = S2 := by
  rcases h1 with ⟨j, hj, rfl, rfl, rfl⟩ | ⟨hk, rfl, rfl⟩
  · rcases h2 with ⟨i, hi, e, rfl, rfl⟩ | ⟨hk2, -, -⟩
    · rw [nI_injN hj hi e]; exact ⟨rfl, rfl⟩
    · exact absurd (okN_of hj) hk2
  · rcases h2 with ⟨i, hi, e, -, -⟩ | ⟨-, rfl, rfl⟩
    · rw [e] at hk; exact absurd (okN_of hi) hk
    · exact ⟨rfl, rfl⟩
theorem PTimer.fn {S : St} {t w r r' : Int32} (h1 : PTimer S t w r) (h2 : PTimer S t w r') : r = r' := by
  rcases h1 with ⟨j, hj, rfl, rfl⟩ | ⟨hk, rfl⟩
  · rcases h2 with ⟨i, hi, e, rfl⟩ | ⟨hk2, -⟩
    · rw [nI_inj8 hj hi e]
    · exact absurd (okT_of hj) hk2
  · rcases h2 with ⟨i, hi, e, -⟩ | ⟨-, rfl⟩
    · rw [e] at hk; exact absurd (okT_of hi) hk
    · rfl
theorem PGateOf.fn {S : St} {g w r r' : Int32} (h1 : PGateOf S g w r) (h2 : PGateOf S g w r') : r = r' := by
  rcases h1 with ⟨j, hj, rfl, rfl⟩ | ⟨hk, rfl⟩
  · rcases h2 with ⟨i, hi, e, rfl⟩ | ⟨hk2, -⟩
    · rw [nI_inj4 hj hi e]
    · exact absurd (okG_of hj) hk2
  · rcases h2 with ⟨i, hi, e, -⟩ | ⟨-, rfl⟩
    · rw [e] at hk; exact absurd (okG_of hi) hk
    · rfl
theorem le_anti {u v : Int32} (h1 : u ≤ v) (h2 : v ≤ u) : u = v := by
  rw [Int32.le_iff_toInt_le] at h1 h2
  exact Int32.toInt_inj.mp (by omega)
theorem PLeast.fn {S : St} {r r' : Int32} (h1 : PLeast S r) (h2 : PLeast S r') : r = r' := by
  rcases h1 with ⟨a1, rfl⟩ | ⟨⟨t, ht, hta, rfl⟩, b1⟩
  · rcases h2 with ⟨-, rfl⟩ | ⟨⟨u, hu, hua, rfl⟩, b2⟩
    · rfl
    · exact absurd hua (a1 u hu)
  · rcases h2 with ⟨a2, -⟩ | ⟨⟨u, hu, hua, rfl⟩, b2⟩
    · exact absurd hta (a2 t ht)
    · exact le_anti (b1 u hu hua) (b2 t ht hta)
theorem PLook.fn {S : St} {w r r' : Int32} (h1 : PLook S w r) (h2 : PLook S w r') : r = r' := by
  rcases h1 with ⟨e1, rfl⟩ | ⟨e1, rfl⟩ | ⟨e1, rfl⟩ | ⟨e1, p1⟩ | ⟨n0, n1, n2, n3, rfl⟩
  · rcases h2 with ⟨e2, rfl⟩ | ⟨e2, rfl⟩ | ⟨e2, rfl⟩ | ⟨e2, p2⟩ | ⟨m0, m1, m2, m3, rfl⟩
    · rfl
    · exact absurd (e1.symm.trans e2) (by decide)
    · exact absurd (e1.symm.trans e2) (by decide)
    · exact absurd (e1.symm.trans e2) (by decide)
    · exact absurd e1 m0
  · rcases h2 with ⟨e2, rfl⟩ | ⟨e2, rfl⟩ | ⟨e2, rfl⟩ | ⟨e2, p2⟩ | ⟨m0, m1, m2, m3, rfl⟩
    · exact absurd (e1.symm.trans e2) (by decide)
    · rfl
    · exact absurd (e1.symm.trans e2) (by decide)
    · exact absurd (e1.symm.trans e2) (by decide)
    · exact absurd e1 m1
  · rcases h2 with ⟨e2, rfl⟩ | ⟨e2, rfl⟩ | ⟨e2, rfl⟩ | ⟨e2, p2⟩ | ⟨m0, m1, m2, m3, rfl⟩
    · exact absurd (e1.symm.trans e2) (by decide)
    · exact absurd (e1.symm.trans e2) (by decide)
    · rfl
    · exact absurd (e1.symm.trans e2) (by decide)
    · exact absurd e1 m2
  · rcases h2 with ⟨e2, rfl⟩ | ⟨e2, rfl⟩ | ⟨e2, rfl⟩ | ⟨e2, p2⟩ | ⟨m0, m1, m2, m3, rfl⟩
    · exact absurd (e1.symm.trans e2) (by decide)
    · exact absurd (e1.symm.trans e2) (by decide)
    · exact absurd (e1.symm.trans e2) (by decide)
    · exact PLeast.fn p1 p2
    · exact absurd e1 m3
  · rcases h2 with ⟨e2, rfl⟩ | ⟨e2, rfl⟩ | ⟨e2, rfl⟩ | ⟨e2, p2⟩ | ⟨m0, m1, m2, m3, rfl⟩
    · exact absurd e2 n0
    · exact absurd e2 n1
    · exact absurd e2 n2
    · exact absurd e2 n3
    · rfl
theorem PServed.no {S : St} {i w : Int32} {n a b : Nat} (hn : n < 2 ^ 31) (e1 : S 32 0 = nI n) (e2 : i = nI a) (ha : a < 16) (han : a < n) (e3 : w = nI b) (hb : b < 3) : ¬ (¬ (¬ i < 0 ∧ i < 16 ∧ i < S 32 0) ∨ (¬ w = 0 ∧ ¬ w = 1 ∧ ¬ w = 2)) := by
  subst e2
  subst e3
  intro h
  rcases h with h | h
  · exact h ⟨nI_pos (by omega), nI_lt (b := 16) ha (by decide), by rw [e1]; exact nI_lt han hn⟩
  · rcases (show b = 0 ∨ b = 1 ∨ b = 2 by omega) with rfl | rfl | rfl
    · exact h.1 rfl
    · exact h.2.1 rfl
    · exact h.2.2 rfl
theorem PServed.fn {S : St} {i w r r' : Int32} (h1 : PServed S i w r) (h2 : PServed S i w r') : r = r' := by
  rcases h1 with ⟨n, a, b, hn, e1, e2, ha, han, e3, hb, rfl⟩ | ⟨hk, rfl⟩
  · rcases h2 with ⟨n', a', b', hn', e1', e2', ha', han', e3', hb', rfl⟩ | ⟨hk2, -⟩
    · have x1 : n = n' := (nI_eq hn hn').mp (e1.symm.trans e1')
      have x2 : a = a' := (nI_eq (by omega) (by omega)).mp (e2.symm.trans e2')
      have x3 : b = b' := (nI_eq (by omega) (by omega)).mp (e3.symm.trans e3')
      rw [x1, x2, x3]
    · exact absurd hk2 (PServed.no hn e1 e2 ha han e3 hb)
  · rcases h2 with ⟨n', a', b', hn', e1', e2', ha', han', e3', hb', rfl⟩ | ⟨-, rfl⟩
    · exact absurd hk (PServed.no hn' e1' e2' ha' han' e3' hb')
    · rfl
theorem ge1 {v : Int32} (h : ¬ v < 1) : 1 ≤ v.toInt := by
  rw [Int32.lt_iff_toInt_lt, toInt_1] at h; omega
theorem PSet.ok {S : St} {t s p o r : Int32} {S1 : St} (h : PSet S t s p o r S1) (hI : Inv S) (ho : Bz o) {B : Nat} (hB : Bnd B S) : Inv S1 ∧ Bnd (B + 80000) S1 := by
  rcases h with ⟨j, hj, rfl, ⟨-, -, -, h1, h2⟩, -, rfl⟩ | ⟨-, -, rfl⟩
  · have hp : 1 ≤ p.toInt ∧ p.toInt ≤ 65535 := ⟨ge1 h1, by rw [Int32.le_iff_toInt_le, show (65535 : Int32).toInt = 65535 by decide] at h2; exact h2⟩
    refine ⟨?_, Bnd.mono (by obtain ⟨n, a, b⟩ := hB; exact ⟨n, a, b⟩) (by omega)⟩
    unfold setS
    exact Inv.up (Inv.up (Inv.up (Inv.up (Inv.up hI trivial) (show okv 0 p from hp)) (show okv 1 p from hp)) (show okv 4 o from ho)) (show okv 3 0 from Or.inl rfl)
  · exact ⟨hI, hB.mono (by omega)⟩
theorem PTurn.ok {S : St} {t on r : Int32} {S1 : St} (h : PTurn S t on r S1) (hI : Inv S) (ho : Bz on) {B : Nat} (hB : Bnd B S) : Inv S1 ∧ Bnd (B + 80000) S1 := by
  rcases h with ⟨j, hj, -, -, -, rfl⟩ | ⟨-, -, rfl⟩
  · exact ⟨Inv.up hI (show okv 3 on from ho), Bnd.mono (by obtain ⟨n, a, b⟩ := hB; exact ⟨n, a, b⟩) (by omega)⟩
  · exact ⟨hI, hB.mono (by omega)⟩
theorem PGate.ok {S : St} {g m d r : Int32} {S1 : St} (h : PGate S g m d r S1) (hI : Inv S) {B : Nat} (hB : Bnd B S) : Inv S1 ∧ Bnd (B + 80000) S1 := by
  rcases h with ⟨j, hj, rfl, ⟨-, h1, h2, h3, h4⟩, -, rfl⟩ | ⟨-, -, rfl⟩
  · have hm : ∃ n : Nat, n < 256 ∧ m = nI n := by
      obtain ⟨n, a, b⟩ := nI_of2 (M := 255) (n := 255) (by decide) h1 (Int32.not_lt.mp h2)
      exact ⟨n, by omega, b⟩
    have hd : 1 ≤ d.toInt ∧ d.toInt ≤ 1000 := ⟨ge1 h3, by rw [Int32.le_iff_toInt_le, show (1000 : Int32).toInt = 1000 by decide] at h4; exact h4⟩
    exact ⟨Inv.up (Inv.up hI (show okv 10 m from hm)) (show okv 11 d from hd), Bnd.mono (by obtain ⟨n, a, b⟩ := hB; exact ⟨n, a, b⟩) (by omega)⟩
  · exact ⟨hI, hB.mono (by omega)⟩
theorem Inv_clr {are : Int32} {n : Nat} {S : St} (h : Inv S) : Inv (clr are n S) := by
  intro f i
  unfold clr
  by_cases e : f = 8
  · subst e; exact trivial
  · rw [if_neg e]; exact h f i
theorem PClear.ok {S : St} {m r : Int32} {S1 : St} (h : PClear S m r S1) (hI : Inv S) {B : Nat} (hB : Bnd B S) : Inv S1 ∧ Bnd (B + 80000) S1 := by
  rcases h with ⟨-, -, rfl⟩ | ⟨-, -, rfl⟩
  · exact ⟨Inv.up (Inv_clr hI) trivial, Bnd.mono (by obtain ⟨n, a, b⟩ := hB; exact ⟨n, a, b⟩) (by omega)⟩
  · exact ⟨hI, hB.mono (by omega)⟩
theorem PAdv.ok {S : St} {n r : Int32} {S1 : St} (h : PAdv S n r S1) (hI : Inv S) {B : Nat} (hB : Bnd B S) : Inv S1 ∧ Bnd (B + 80000) S1 := by
  rcases h with ⟨k, hk, -, rfl, -⟩ | ⟨-, -, rfl⟩
  · exact ⟨Inv_tickN _ _ hI, Bnd.mono (Bnd_tickN k B S hB) (by omega)⟩
  · exact ⟨hI, hB.mono (by omega)⟩
theorem PNext.ok {S : St} {n r : Int32} {S1 : St} (h : PNext S n r S1) (hI : Inv S) {B : Nat} (hB : Bnd B S) : Inv S1 ∧ Bnd (B + 80000) S1 := by
  rcases h with ⟨k, hk, -, rfl, -⟩ | ⟨-, -, rfl⟩
  · have h1 := nx_le k S
    rw [nx_tick]
    exact ⟨Inv_tickN _ _ hI, Bnd.mono (Bnd_tickN _ B S hB) (by omega)⟩
  · exact ⟨hI, hB.mono (by omega)⟩
theorem Inv_S0 : Inv S0 := by
  intro f i
  unfold okv
  split <;> first | exact (show 1 ≤ (1 : Int32).toInt ∧ (1 : Int32).toInt ≤ 65535 by decide) | exact (show 1 ≤ (1 : Int32).toInt ∧ (1 : Int32).toInt ≤ 1000 by decide) | exact (show 0 ≤ (0 : Int32).toInt ∧ (0 : Int32).toInt ≤ 1000 by decide) | exact Or.inl rfl | exact ⟨0, by decide, rfl⟩ | trivial
theorem Bnd_S0 : Bnd 0 S0 := ⟨0, Nat.le_refl 0, rfl⟩
end
section
/-! THE CLAIM OUT OF ONE WALK OF THE LAW'S BODY. Your part is whole_start (and what it stands on); all else here is the same for every law, but numbers. -/
def lw_P (b : Addr) (xs : List Int32) (args : Array Value) (s : State) : Prop := args = #[.ref b] ∧ s.IntsAt b xs ∧ xs.length ≤ 2560 ∧ (Jvm.Cond.and given_1 narrow_1).before args s = true
def lw_Q (_ : Array Value) (s : State) (o : Outcome) (t : State) : Prop := o = .returned (some (.int 1)) ∧ Framed s o t [] 661274 7118426
def lw_Z (below : List Frame) (a : Array Value) (s : State) : State → Prop := fun t => ∃ o, t.status = .running ∧ Ended t below o ∧ lw_Q a s o t
/-- the law's own end, with 1 on the stack, nothing written that was there before, its room as the claim has it -/
theorem lw_ret {p : Program} {l : Launch} {e : Env} {s : State} {m : MethodId} {below : List Frame} {meth : Method} {c : Code} {b : Nat} (hx : p.tables.exec = Jvm.exec) (hb : c.code = code) (hr : meth.sig.returnType = ret) (hlocks : meth.locks = false) {pc : Nat} {H : Heap} {ls : Array Slot} (hdg : decode code pc = .ok (.ireturn, 1)) : W p l e room_1 s m #[Value.ref b] below meth c H [] 661274 7118426 (lw_Z below #[Value.ref b] s) (F0 m pc ls [.int 1]) := by
  intro T hT X
  obtain ⟨fs, hret, hrun, hended, hW, hframe⟩ := X.leave (v := some (.int 1)) (hlocks := hlocks) (fun h => by rw [hr] at h; cases h)
  have hmeth' : T.vm.method? m = some meth := X.method'
  refine ⟨T.setFrames fs, ?_, .returned (some (.int 1)), hrun, hended, rfl, ⟨_, rfl⟩, hW, hframe⟩
  jvm_step X.here [X.here.top, hx, hb, hdg, hmeth', hr, ret, narrow_b1]
  (try refine ⟨rfl, ?_⟩); (try refine ⟨rfl, ?_⟩)
  first | (intro acts; rw [hret _ acts rfl rfl rfl]) | rw [hret _ _ rfl rfl rfl]
  exact Steps.refl _
/-- what holds at the law's entry: the machine, the code, the tables' words (any of lw_tbl by 'hts w (by decide +kernel)'), the script of L ints xs at the cell b, what the Statement gives of the start (any of its parts by flat_of_before) -/
def lw_At (p : Program) (s : State) (m : MethodId) (meth : Method) (c : Code) (b L : Nat) (xs : Nat → Int32) : Prop :=
  p.tables.exec = Jvm.exec ∧ c.code = code ∧ meth.sig.returnType = ret ∧ c.maxLocals = 4 ∧ s.vm.findClass R_law = some m.cls ∧ (∀ w ∈ lw_tbl, w.before #[Value.ref b] s = true) ∧ va_X b L xs s s.heap ∧ b < s.heap.size ∧ meth.locks = false ∧ (Jvm.Cond.and given_1 narrow_1).before #[Value.ref b] s = true
/-! ===== rows for the law's own body ===== -/
def Scr (x : Ctx) (b Ls : Nat) (xs : Nat → Int32) : Prop := match x with
  | (_, _, _, _, s, _, _, _, _, _, A) => va_X b Ls xs s s.heap ∧ b < s.heap.size ∧ ¬ A b
def IsLaw (x : Ctx) (b : Nat) : Prop := match x with
  | (_, _, _, _, s, _, args, _, _, _, A) => args = #[Value.ref b] ∧ ∀ q, A q → s.heap.size ≤ q
def LZ (x : Ctx) (b : Nat) : State → Prop := match x with
  | (_, _, _, _, s, _, _, below, _, _, _) => lw_Z below #[Value.ref b] s
section JL
variable {x : Ctx} {G : Gid} {a b : Nat} {Q : State → Prop} {ws : va_W} {pc : Nat} {L : List (Option Value)} {st : List Value} {cc : ByteArray} {nL : Nat} {own : String} {rt rt0 : Option FieldType} {rm rm' : Room}
theorem j_sldN {sb Ls j : Nat} {xs : Nat → Int32} (X : Fix x G cc nL own rt rm) (hs : Scr x sb Ls xs) (hj : j < Ls) (hn : Ls < 2 ^ 31) (hd : decode cc pc = .ok (.iaload, 1)) (kk : J x G a b Q ws (pc + 1) L (.int (xs j) :: st)) : J x G a b Q ws pc L (.int (nI j) :: .ref sb :: st) := by
  obtain ⟨p, l, e, R, s, m, args, below, meth, c, A⟩ := x
  intro H locs ls hP hD hS hl
  exact va_sld X.1.1 X.1.2.1 hs.1 hs.2.1 hs.2.2 hS (vp_in_nI hj hn) hd (by rw [nI_clamp (by omega)]; exact kk H locs ls hP hD hS hl)
theorem j_slen {sb Ls : Nat} {xs : Nat → Int32} (X : Fix x G cc nL own rt rm) (hs : Scr x sb Ls xs) (hd : decode cc pc = .ok (.arraylength, 1)) (kk : J x G a b Q ws (pc + 1) L (.int (nI Ls) :: st)) : J x G a b Q ws pc L (.ref sb :: st) := by
  obtain ⟨p, l, e, R, s, m, args, below, meth, c, A⟩ := x
  intro H locs ls hP hD hS hl
  exact va_slen X.1.1 X.1.2.1 hs.1 hs.2.1 hs.2.2 hS hd (kk H locs ls hP hD hS hl)
theorem j_lret {sb : Nat} (X : Fix x G code 4 R_law ret room_1) (hL : IsLaw x sb) (hd : decode code pc = .ok (.ireturn, 1)) : J x G 661274 7118426 (LZ x sb) ws pc L [.int 1] := by
  obtain ⟨p, l, e, R, s, m, args, below, meth, c, A⟩ := x
  intro H locs ls hP hD hS hl
  obtain ⟨X1, X2, X3, X4, X5, rfl⟩ := X
  obtain ⟨rfl, hA⟩ := hL
  exact va_forget (fun q hq => hA _ (hS.2.2 q hq)) (lw_ret X1.1 X1.2.1 X5 X4 hd)
variable {y : MethodName} {bt : ByteArray} {n index : Nat} {C : String} {wc : va_W}
theorem j_callL {post : Int32 → va_W → Prop} {o q0 ci : Nat} {fs : List Value} {T : u_T} {N : Nat} (X : Fix x G cc nL own rt0 rm) (As rest : List Value) (wr : va_W) (hM : CtI x.2.1 y bt n rt rm' G (.ref o :: As) wc 0 0 post) (ok : OkV own index C y bt n rt As.length) (he : wc[q0]? = some (o, .inr (ci, fs))) (hc : classes[ci]? = some (C, T, N)) (hst : st = As.reverse ++ .ref o :: rest) (hrest : (rest.map fun v => v.category).sum ≤ 8) (hR : rm'.frames + 1 ≤ rm.frames ∧ 8 + (n + 11) + rm'.locals ≤ rm.locals) (hcs : rm'.cells = 0 ∧ rm'.slots = 0) (hnL : L.length = nL) (hf : a ≤ rm.cells ∧ b ≤ rm.slots) (hd : decode cc pc = .ok (.invokevirtual index, 3)) (kk : ∀ (r : Int32) (w1 : va_W), post r w1 → J x G a b Q (w1 ++ wr) (pc + 3) L (.int r :: rest)) : J x G a b Q (wc ++ wr) pc L st :=
  j_callVi X As rest [] wr hM ok he hc (List.nil_append _).symm hst hrest hR hcs hnL hf hd (fun r w1 hw => by rw [List.nil_append]; exact kk r w1 hw)
theorem j_callR {post : Int32 → va_W → Prop} {o q0 ci : Nat} {fs : List Value} {T : u_T} {N : Nat} (X : Fix x G cc nL own rt0 rm) (As rest : List Value) (wl : va_W) (hM : CtI x.2.1 y bt n rt rm' G (.ref o :: As) wc 0 0 post) (ok : OkV own index C y bt n rt As.length) (he : wc[q0]? = some (o, .inr (ci, fs))) (hc : classes[ci]? = some (C, T, N)) (hst : st = As.reverse ++ .ref o :: rest) (hrest : (rest.map fun v => v.category).sum ≤ 8) (hR : rm'.frames + 1 ≤ rm.frames ∧ 8 + (n + 11) + rm'.locals ≤ rm.locals) (hcs : rm'.cells = 0 ∧ rm'.slots = 0) (hnL : L.length = nL) (hf : a ≤ rm.cells ∧ b ≤ rm.slots) (hd : decode cc pc = .ok (.invokevirtual index, 3)) (kk : ∀ (r : Int32) (w1 : va_W), post r w1 → J x G a b Q (wl ++ w1) (pc + 3) L (.int r :: rest)) : J x G a b Q (wl ++ wc) pc L st :=
  j_callVi X As rest wl [] hM ok he hc (by rw [List.append_nil]) hst hrest hR hcs hnL hf hd (fun r w1 hw => by rw [List.append_nil]; exact kk r w1 hw)
end JL
end
section
set_option maxHeartbeats 4000000 in
set_option maxRecDepth 100000 in
theorem op_set {x : Ctx} {G : Gid} {ad bd : Nat → Nat} {Q : State → Prop} (X : Fix x G code 4 R_law ret room_1) {sb Ls : Nat} {xs : Nat → Int32} (hs : Scr x sb Ls xs) (k : Nat) (hk : k + 5 ≤ Ls) (hL : Ls ≤ 2560) (S : St) (dn : Nat → Int32) (hI : Inv S) (B : Nat) (hB : Bnd B S) (hB2 : B + 80004 < 2 ^ 31) (kk : ∀ (S1 : St) (dn1 : Nat → Int32), Inv S1 → Bnd (B + 80000) S1 → J x G 661274 7118426 Q (wX G ad S1 ++ wM G bd S1 dn1) 440 [some (.ref sb), some (.ref (ad 0)), some (.ref (bd 0)), some (.int (nI k))] []) : J x G 661274 7118426 Q (wX G ad S ++ wM G bd S dn) 88 [some (.ref sb), some (.ref (ad 0)), some (.ref (bd 0)), some (.int (nI k))] [] := by
  by_cases hz : xs (k + 4) = 0
  · refine j_aload_n X d_law_88 rfl ?_
    refine j_aload_n X d_law_89 rfl ?_
    refine j_iload_n X d_law_90 rfl ?_
    refine j_iconst (v := 1) X d_law_91 (by decide) ?_
    refine j_iadd X d_law_92 ?_
    refine j_top (nI_add k 1) ?_
    refine j_sldN X hs (show k + 1 < Ls by omega) (by omega) d_law_93 ?_
    refine j_aload_n X d_law_94 rfl ?_
    refine j_iload_n X d_law_95 rfl ?_
    refine j_iconst (v := 2) X d_law_96 (by decide) ?_
    refine j_iadd X d_law_97 ?_
    refine j_top (nI_add k 2) ?_
    refine j_sldN X hs (show k + 2 < Ls by omega) (by omega) d_law_98 ?_
    refine j_aload_n X d_law_99 rfl ?_
    refine j_iload_n X d_law_100 rfl ?_
    refine j_iconst (v := 3) X d_law_101 (by decide) ?_
    refine j_iadd X d_law_102 ?_
    refine j_top (nI_add k 3) ?_
    refine j_sldN X hs (show k + 3 < Ls by omega) (by omega) d_law_103 ?_
    refine j_aload_n X d_law_104 rfl ?_
    refine j_iload_n X d_law_105 rfl ?_
    refine j_iconst (v := 4) X d_law_106 (by decide) ?_
    refine j_iadd X d_law_107 ?_
    refine j_top (nI_add k 4) ?_
    refine j_sldN X hs (show k + 4 < Ls by omega) (by omega) d_law_108 ?_
    refine j_if_eq (tgt := 116) X d_law_109 (by decide) (fun _ => ?_) (fun h => absurd (hz) h)
    refine j_iconst (v := 0) X d_law_116 (by decide) ?_
    refine j_callL X [.int (xs (k + 1)), .int (xs (k + 2)), .int (xs (k + 3)), .int 0] [] (wM G bd S dn) (c_TG_set _ _ _ S (xs (k + 1)) (xs (k + 2)) (xs (k + 3)) 0 (Or.inl rfl)) ok_law_13 (q0 := 0) rfl rfl rfl (Nat.le_of_ble_eq_true rfl) ⟨Nat.le_of_ble_eq_true rfl, Nat.le_of_ble_eq_true rfl⟩ ⟨rfl, rfl⟩ rfl ⟨Nat.le_of_ble_eq_true rfl, Nat.le_of_ble_eq_true rfl⟩ d_law_117 (fun r1 w1 hw1 => ?_)
    obtain ⟨S1, h1, rfl⟩ := hw1
    refine j_aload_n X d_law_120 rfl ?_
    refine j_aload_n X d_law_121 rfl ?_
    refine j_iload_n X d_law_122 rfl ?_
    refine j_iconst (v := 1) X d_law_123 (by decide) ?_
    refine j_iadd X d_law_124 ?_
    refine j_top (nI_add k 1) ?_
    refine j_sldN X hs (show k + 1 < Ls by omega) (by omega) d_law_125 ?_
    refine j_aload_n X d_law_126 rfl ?_
    refine j_iload_n X d_law_127 rfl ?_
    refine j_iconst (v := 2) X d_law_128 (by decide) ?_
    refine j_iadd X d_law_129 ?_
    refine j_top (nI_add k 2) ?_
    refine j_sldN X hs (show k + 2 < Ls by omega) (by omega) d_law_130 ?_
    refine j_aload_n X d_law_131 rfl ?_
    refine j_iload_n X d_law_132 rfl ?_
    refine j_iconst (v := 3) X d_law_133 (by decide) ?_
    refine j_iadd X d_law_134 ?_
    refine j_top (nI_add k 3) ?_
    refine j_sldN X hs (show k + 3 < Ls by omega) (by omega) d_law_135 ?_
    refine j_aload_n X d_law_136 rfl ?_
    refine j_iload_n X d_law_137 rfl ?_
    refine j_iconst (v := 4) X d_law_138 (by decide) ?_
    refine j_iadd X d_law_139 ?_
    refine j_top (nI_add k 4) ?_
    refine j_sldN X hs (show k + 4 < Ls by omega) (by omega) d_law_140 ?_
    refine j_if_eq (tgt := 148) X d_law_141 (by decide) (fun _ => ?_) (fun h => absurd (hz) h)
    refine j_iconst (v := 0) X d_law_148 (by decide) ?_
    refine j_callR X [.int (xs (k + 1)), .int (xs (k + 2)), .int (xs (k + 3)), .int 0] [.int r1] (wX G ad S1) (c_Md_set _ _ _ S dn (xs (k + 1)) (xs (k + 2)) (xs (k + 3)) 0 (Or.inl rfl)) ok_law_17 (q0 := 0) rfl rfl rfl (Nat.le_of_ble_eq_true rfl) ⟨Nat.le_of_ble_eq_true rfl, Nat.le_of_ble_eq_true rfl⟩ ⟨rfl, rfl⟩ rfl ⟨Nat.le_of_ble_eq_true rfl, Nat.le_of_ble_eq_true rfl⟩ d_law_149 (fun r2 w2 hw2 => ?_)
    obtain ⟨S2, dn2, h2, rfl⟩ := hw2
    obtain ⟨e1, e2⟩ := h1.fn h2
    subst e2
    obtain ⟨hI1, hB1⟩ := h1.ok hI (Or.inl rfl) hB
    refine j_icmp_eq (tgt := 440) X d_law_152 (by decide) (fun _ => ?_) (fun h => absurd (e1) h)
    exact kk S1 dn2 hI1 hB1
  · refine j_aload_n X d_law_88 rfl ?_
    refine j_aload_n X d_law_89 rfl ?_
    refine j_iload_n X d_law_90 rfl ?_
    refine j_iconst (v := 1) X d_law_91 (by decide) ?_
    refine j_iadd X d_law_92 ?_
    refine j_top (nI_add k 1) ?_
    refine j_sldN X hs (show k + 1 < Ls by omega) (by omega) d_law_93 ?_
    refine j_aload_n X d_law_94 rfl ?_
    refine j_iload_n X d_law_95 rfl ?_
    refine j_iconst (v := 2) X d_law_96 (by decide) ?_
    refine j_iadd X d_law_97 ?_
    refine j_top (nI_add k 2) ?_
    refine j_sldN X hs (show k + 2 < Ls by omega) (by omega) d_law_98 ?_
    refine j_aload_n X d_law_99 rfl ?_
    refine j_iload_n X d_law_100 rfl ?_
    refine j_iconst (v := 3) X d_law_101 (by decide) ?_
    refine j_iadd X d_law_102 ?_
    refine j_top (nI_add k 3) ?_
    refine j_sldN X hs (show k + 3 < Ls by omega) (by omega) d_law_103 ?_
    refine j_aload_n X d_law_104 rfl ?_
    refine j_iload_n X d_law_105 rfl ?_
    refine j_iconst (v := 4) X d_law_106 (by decide) ?_
    refine j_iadd X d_law_107 ?_
    refine j_top (nI_add k 4) ?_
    refine j_sldN X hs (show k + 4 < Ls by omega) (by omega) d_law_108 ?_
    refine j_if_eq (tgt := 116) X d_law_109 (by decide) (fun h => absurd h (hz)) (fun _ => ?_)
    refine j_iconst (v := 1) X d_law_112 (by decide) ?_
    refine j_goto (tgt := 117) X d_law_113 (by decide) ?_
    refine j_callL X [.int (xs (k + 1)), .int (xs (k + 2)), .int (xs (k + 3)), .int 1] [] (wM G bd S dn) (c_TG_set _ _ _ S (xs (k + 1)) (xs (k + 2)) (xs (k + 3)) 1 (Or.inr rfl)) ok_law_13 (q0 := 0) rfl rfl rfl (Nat.le_of_ble_eq_true rfl) ⟨Nat.le_of_ble_eq_true rfl, Nat.le_of_ble_eq_true rfl⟩ ⟨rfl, rfl⟩ rfl ⟨Nat.le_of_ble_eq_true rfl, Nat.le_of_ble_eq_true rfl⟩ d_law_117 (fun r1 w1 hw1 => ?_)
    obtain ⟨S1, h1, rfl⟩ := hw1
    refine j_aload_n X d_law_120 rfl ?_
    refine j_aload_n X d_law_121 rfl ?_
    refine j_iload_n X d_law_122 rfl ?_
    refine j_iconst (v := 1) X d_law_123 (by decide) ?_
    refine j_iadd X d_law_124 ?_
    refine j_top (nI_add k 1) ?_
    refine j_sldN X hs (show k + 1 < Ls by omega) (by omega) d_law_125 ?_
    refine j_aload_n X d_law_126 rfl ?_
    refine j_iload_n X d_law_127 rfl ?_
    refine j_iconst (v := 2) X d_law_128 (by decide) ?_
    refine j_iadd X d_law_129 ?_
    refine j_top (nI_add k 2) ?_
    refine j_sldN X hs (show k + 2 < Ls by omega) (by omega) d_law_130 ?_
    refine j_aload_n X d_law_131 rfl ?_
    refine j_iload_n X d_law_132 rfl ?_
    refine j_iconst (v := 3) X d_law_133 (by decide) ?_
    refine j_iadd X d_law_134 ?_
    refine j_top (nI_add k 3) ?_
    refine j_sldN X hs (show k + 3 < Ls by omega) (by omega) d_law_135 ?_
    refine j_aload_n X d_law_136 rfl ?_
    refine j_iload_n X d_law_137 rfl ?_
    refine j_iconst (v := 4) X d_law_138 (by decide) ?_
    refine j_iadd X d_law_139 ?_
    refine j_top (nI_add k 4) ?_
    refine j_sldN X hs (show k + 4 < Ls by omega) (by omega) d_law_140 ?_
    refine j_if_eq (tgt := 148) X d_law_141 (by decide) (fun h => absurd h (hz)) (fun _ => ?_)
    refine j_iconst (v := 1) X d_law_144 (by decide) ?_
    refine j_goto (tgt := 149) X d_law_145 (by decide) ?_
    refine j_callR X [.int (xs (k + 1)), .int (xs (k + 2)), .int (xs (k + 3)), .int 1] [.int r1] (wX G ad S1) (c_Md_set _ _ _ S dn (xs (k + 1)) (xs (k + 2)) (xs (k + 3)) 1 (Or.inr rfl)) ok_law_17 (q0 := 0) rfl rfl rfl (Nat.le_of_ble_eq_true rfl) ⟨Nat.le_of_ble_eq_true rfl, Nat.le_of_ble_eq_true rfl⟩ ⟨rfl, rfl⟩ rfl ⟨Nat.le_of_ble_eq_true rfl, Nat.le_of_ble_eq_true rfl⟩ d_law_149 (fun r2 w2 hw2 => ?_)
    obtain ⟨S2, dn2, h2, rfl⟩ := hw2
    obtain ⟨e1, e2⟩ := h1.fn h2
    subst e2
    obtain ⟨hI1, hB1⟩ := h1.ok hI (Or.inr rfl) hB
    refine j_icmp_eq (tgt := 440) X d_law_152 (by decide) (fun _ => ?_) (fun h => absurd (e1) h)
    exact kk S1 dn2 hI1 hB1
set_option maxHeartbeats 4000000 in
set_option maxRecDepth 100000 in
theorem op_turn {x : Ctx} {G : Gid} {ad bd : Nat → Nat} {Q : State → Prop} (X : Fix x G code 4 R_law ret room_1) {sb Ls : Nat} {xs : Nat → Int32} (hs : Scr x sb Ls xs) (k : Nat) (hk : k + 5 ≤ Ls) (hL : Ls ≤ 2560) (S : St) (dn : Nat → Int32) (hI : Inv S) (B : Nat) (hB : Bnd B S) (hB2 : B + 80004 < 2 ^ 31) (kk : ∀ (S1 : St) (dn1 : Nat → Int32), Inv S1 → Bnd (B + 80000) S1 → J x G 661274 7118426 Q (wX G ad S1 ++ wM G bd S1 dn1) 440 [some (.ref sb), some (.ref (ad 0)), some (.ref (bd 0)), some (.int (nI k))] []) : J x G 661274 7118426 Q (wX G ad S ++ wM G bd S dn) 157 [some (.ref sb), some (.ref (ad 0)), some (.ref (bd 0)), some (.int (nI k))] [] := by
  by_cases hz : xs (k + 2) = 0
  · refine j_aload_n X d_law_157 rfl ?_
    refine j_aload_n X d_law_158 rfl ?_
    refine j_iload_n X d_law_159 rfl ?_
    refine j_iconst (v := 1) X d_law_160 (by decide) ?_
    refine j_iadd X d_law_161 ?_
    refine j_top (nI_add k 1) ?_
    refine j_sldN X hs (show k + 1 < Ls by omega) (by omega) d_law_162 ?_
    refine j_aload_n X d_law_163 rfl ?_
    refine j_iload_n X d_law_164 rfl ?_
    refine j_iconst (v := 2) X d_law_165 (by decide) ?_
    refine j_iadd X d_law_166 ?_
    refine j_top (nI_add k 2) ?_
    refine j_sldN X hs (show k + 2 < Ls by omega) (by omega) d_law_167 ?_
    refine j_if_eq (tgt := 175) X d_law_168 (by decide) (fun _ => ?_) (fun h => absurd (hz) h)
    refine j_iconst (v := 0) X d_law_175 (by decide) ?_
    refine j_callL X [.int (xs (k + 1)), .int 0] [] (wM G bd S dn) (c_TG_turn _ _ _ S (xs (k + 1)) 0 (Or.inl rfl)) ok_law_18 (q0 := 0) rfl rfl rfl (Nat.le_of_ble_eq_true rfl) ⟨Nat.le_of_ble_eq_true rfl, Nat.le_of_ble_eq_true rfl⟩ ⟨rfl, rfl⟩ rfl ⟨Nat.le_of_ble_eq_true rfl, Nat.le_of_ble_eq_true rfl⟩ d_law_176 (fun r1 w1 hw1 => ?_)
    obtain ⟨S1, h1, rfl⟩ := hw1
    refine j_aload_n X d_law_179 rfl ?_
    refine j_aload_n X d_law_180 rfl ?_
    refine j_iload_n X d_law_181 rfl ?_
    refine j_iconst (v := 1) X d_law_182 (by decide) ?_
    refine j_iadd X d_law_183 ?_
    refine j_top (nI_add k 1) ?_
    refine j_sldN X hs (show k + 1 < Ls by omega) (by omega) d_law_184 ?_
    refine j_aload_n X d_law_185 rfl ?_
    refine j_iload_n X d_law_186 rfl ?_
    refine j_iconst (v := 2) X d_law_187 (by decide) ?_
    refine j_iadd X d_law_188 ?_
    refine j_top (nI_add k 2) ?_
    refine j_sldN X hs (show k + 2 < Ls by omega) (by omega) d_law_189 ?_
    refine j_if_eq (tgt := 197) X d_law_190 (by decide) (fun _ => ?_) (fun h => absurd (hz) h)
    refine j_iconst (v := 0) X d_law_197 (by decide) ?_
    refine j_callR X [.int (xs (k + 1)), .int 0] [.int r1] (wX G ad S1) (c_Md_turn _ _ _ S dn (xs (k + 1)) 0 (Or.inl rfl)) ok_law_22 (q0 := 0) rfl rfl rfl (Nat.le_of_ble_eq_true rfl) ⟨Nat.le_of_ble_eq_true rfl, Nat.le_of_ble_eq_true rfl⟩ ⟨rfl, rfl⟩ rfl ⟨Nat.le_of_ble_eq_true rfl, Nat.le_of_ble_eq_true rfl⟩ d_law_198 (fun r2 w2 hw2 => ?_)
    obtain ⟨S2, dn2, h2, rfl⟩ := hw2
    obtain ⟨e1, e2⟩ := h1.fn h2
    subst e2
    obtain ⟨hI1, hB1⟩ := h1.ok hI (Or.inl rfl) hB
    refine j_icmp_eq (tgt := 440) X d_law_201 (by decide) (fun _ => ?_) (fun h => absurd (e1) h)
    exact kk S1 dn2 hI1 hB1
  · refine j_aload_n X d_law_157 rfl ?_
    refine j_aload_n X d_law_158 rfl ?_
    refine j_iload_n X d_law_159 rfl ?_
    refine j_iconst (v := 1) X d_law_160 (by decide) ?_
    refine j_iadd X d_law_161 ?_
    refine j_top (nI_add k 1) ?_
    refine j_sldN X hs (show k + 1 < Ls by omega) (by omega) d_law_162 ?_
    refine j_aload_n X d_law_163 rfl ?_
    refine j_iload_n X d_law_164 rfl ?_
    refine j_iconst (v := 2) X d_law_165 (by decide) ?_
    refine j_iadd X d_law_166 ?_
    refine j_top (nI_add k 2) ?_
    refine j_sldN X hs (show k + 2 < Ls by omega) (by omega) d_law_167 ?_
    refine j_if_eq (tgt := 175) X d_law_168 (by decide) (fun h => absurd h (hz)) (fun _ => ?_)
    refine j_iconst (v := 1) X d_law_171 (by decide) ?_
    refine j_goto (tgt := 176) X d_law_172 (by decide) ?_
    refine j_callL X [.int (xs (k + 1)), .int 1] [] (wM G bd S dn) (c_TG_turn _ _ _ S (xs (k + 1)) 1 (Or.inr rfl)) ok_law_18 (q0 := 0) rfl rfl rfl (Nat.le_of_ble_eq_true rfl) ⟨Nat.le_of_ble_eq_true rfl, Nat.le_of_ble_eq_true rfl⟩ ⟨rfl, rfl⟩ rfl ⟨Nat.le_of_ble_eq_true rfl, Nat.le_of_ble_eq_true rfl⟩ d_law_176 (fun r1 w1 hw1 => ?_)
    obtain ⟨S1, h1, rfl⟩ := hw1
    refine j_aload_n X d_law_179 rfl ?_
    refine j_aload_n X d_law_180 rfl ?_
    refine j_iload_n X d_law_181 rfl ?_
    refine j_iconst (v := 1) X d_law_182 (by decide) ?_
    refine j_iadd X d_law_183 ?_
    refine j_top (nI_add k 1) ?_
    refine j_sldN X hs (show k + 1 < Ls by omega) (by omega) d_law_184 ?_
    refine j_aload_n X d_law_185 rfl ?_
    refine j_iload_n X d_law_186 rfl ?_
    refine j_iconst (v := 2) X d_law_187 (by decide) ?_
    refine j_iadd X d_law_188 ?_
    refine j_top (nI_add k 2) ?_
    refine j_sldN X hs (show k + 2 < Ls by omega) (by omega) d_law_189 ?_
    refine j_if_eq (tgt := 197) X d_law_190 (by decide) (fun h => absurd h (hz)) (fun _ => ?_)
    refine j_iconst (v := 1) X d_law_193 (by decide) ?_
    refine j_goto (tgt := 198) X d_law_194 (by decide) ?_
    refine j_callR X [.int (xs (k + 1)), .int 1] [.int r1] (wX G ad S1) (c_Md_turn _ _ _ S dn (xs (k + 1)) 1 (Or.inr rfl)) ok_law_22 (q0 := 0) rfl rfl rfl (Nat.le_of_ble_eq_true rfl) ⟨Nat.le_of_ble_eq_true rfl, Nat.le_of_ble_eq_true rfl⟩ ⟨rfl, rfl⟩ rfl ⟨Nat.le_of_ble_eq_true rfl, Nat.le_of_ble_eq_true rfl⟩ d_law_198 (fun r2 w2 hw2 => ?_)
    obtain ⟨S2, dn2, h2, rfl⟩ := hw2
    obtain ⟨e1, e2⟩ := h1.fn h2
    subst e2
    obtain ⟨hI1, hB1⟩ := h1.ok hI (Or.inr rfl) hB
    refine j_icmp_eq (tgt := 440) X d_law_201 (by decide) (fun _ => ?_) (fun h => absurd (e1) h)
    exact kk S1 dn2 hI1 hB1
set_option maxHeartbeats 4000000 in
set_option maxRecDepth 100000 in
theorem op_gate {x : Ctx} {G : Gid} {ad bd : Nat → Nat} {Q : State → Prop} (X : Fix x G code 4 R_law ret room_1) {sb Ls : Nat} {xs : Nat → Int32} (hs : Scr x sb Ls xs) (k : Nat) (hk : k + 5 ≤ Ls) (hL : Ls ≤ 2560) (S : St) (dn : Nat → Int32) (hI : Inv S) (B : Nat) (hB : Bnd B S) (hB2 : B + 80004 < 2 ^ 31) (kk : ∀ (S1 : St) (dn1 : Nat → Int32), Inv S1 → Bnd (B + 80000) S1 → J x G 661274 7118426 Q (wX G ad S1 ++ wM G bd S1 dn1) 440 [some (.ref sb), some (.ref (ad 0)), some (.ref (bd 0)), some (.int (nI k))] []) : J x G 661274 7118426 Q (wX G ad S ++ wM G bd S dn) 206 [some (.ref sb), some (.ref (ad 0)), some (.ref (bd 0)), some (.int (nI k))] [] := by
  refine j_aload_n X d_law_206 rfl ?_
  refine j_aload_n X d_law_207 rfl ?_
  refine j_iload_n X d_law_208 rfl ?_
  refine j_iconst (v := 1) X d_law_209 (by decide) ?_
  refine j_iadd X d_law_210 ?_
  refine j_top (nI_add k 1) ?_
  refine j_sldN X hs (show k + 1 < Ls by omega) (by omega) d_law_211 ?_
  refine j_aload_n X d_law_212 rfl ?_
  refine j_iload_n X d_law_213 rfl ?_
  refine j_iconst (v := 2) X d_law_214 (by decide) ?_
  refine j_iadd X d_law_215 ?_
  refine j_top (nI_add k 2) ?_
  refine j_sldN X hs (show k + 2 < Ls by omega) (by omega) d_law_216 ?_
  refine j_aload_n X d_law_217 rfl ?_
  refine j_iload_n X d_law_218 rfl ?_
  refine j_iconst (v := 3) X d_law_219 (by decide) ?_
  refine j_iadd X d_law_220 ?_
  refine j_top (nI_add k 3) ?_
  refine j_sldN X hs (show k + 3 < Ls by omega) (by omega) d_law_221 ?_
  refine j_callL X [.int (xs (k + 1)), .int (xs (k + 2)), .int (xs (k + 3))] [] (wM G bd S dn) (c_TG_gate _ _ _ S (xs (k + 1)) (xs (k + 2)) (xs (k + 3))) ok_law_23 (q0 := 0) rfl rfl rfl (Nat.le_of_ble_eq_true rfl) ⟨Nat.le_of_ble_eq_true rfl, Nat.le_of_ble_eq_true rfl⟩ ⟨rfl, rfl⟩ rfl ⟨Nat.le_of_ble_eq_true rfl, Nat.le_of_ble_eq_true rfl⟩ d_law_222 (fun r1 w1 hw1 => ?_)
  obtain ⟨S1, h1, rfl⟩ := hw1
  refine j_aload_n X d_law_225 rfl ?_
  refine j_aload_n X d_law_226 rfl ?_
  refine j_iload_n X d_law_227 rfl ?_
  refine j_iconst (v := 1) X d_law_228 (by decide) ?_
  refine j_iadd X d_law_229 ?_
  refine j_top (nI_add k 1) ?_
  refine j_sldN X hs (show k + 1 < Ls by omega) (by omega) d_law_230 ?_
  refine j_aload_n X d_law_231 rfl ?_
  refine j_iload_n X d_law_232 rfl ?_
  refine j_iconst (v := 2) X d_law_233 (by decide) ?_
  refine j_iadd X d_law_234 ?_
  refine j_top (nI_add k 2) ?_
  refine j_sldN X hs (show k + 2 < Ls by omega) (by omega) d_law_235 ?_
  refine j_aload_n X d_law_236 rfl ?_
  refine j_iload_n X d_law_237 rfl ?_
  refine j_iconst (v := 3) X d_law_238 (by decide) ?_
  refine j_iadd X d_law_239 ?_
  refine j_top (nI_add k 3) ?_
  refine j_sldN X hs (show k + 3 < Ls by omega) (by omega) d_law_240 ?_
  refine j_callR X [.int (xs (k + 1)), .int (xs (k + 2)), .int (xs (k + 3))] [.int r1] (wX G ad S1) (c_Md_gate _ _ _ S dn (xs (k + 1)) (xs (k + 2)) (xs (k + 3))) ok_law_27 (q0 := 0) rfl rfl rfl (Nat.le_of_ble_eq_true rfl) ⟨Nat.le_of_ble_eq_true rfl, Nat.le_of_ble_eq_true rfl⟩ ⟨rfl, rfl⟩ rfl ⟨Nat.le_of_ble_eq_true rfl, Nat.le_of_ble_eq_true rfl⟩ d_law_241 (fun r2 w2 hw2 => ?_)
  obtain ⟨S2, dn2, h2, rfl⟩ := hw2
  obtain ⟨e1, e2⟩ := h1.fn h2
  subst e2
  obtain ⟨hI1, hB1⟩ := h1.ok hI hB
  refine j_icmp_eq (tgt := 440) X d_law_244 (by decide) (fun _ => ?_) (fun h => absurd (e1) h)
  exact kk S1 dn2 hI1 hB1
set_option maxHeartbeats 4000000 in
set_option maxRecDepth 100000 in
theorem op_clear {x : Ctx} {G : Gid} {ad bd : Nat → Nat} {Q : State → Prop} (X : Fix x G code 4 R_law ret room_1) {sb Ls : Nat} {xs : Nat → Int32} (hs : Scr x sb Ls xs) (k : Nat) (hk : k + 5 ≤ Ls) (hL : Ls ≤ 2560) (S : St) (dn : Nat → Int32) (hI : Inv S) (B : Nat) (hB : Bnd B S) (hB2 : B + 80004 < 2 ^ 31) (kk : ∀ (S1 : St) (dn1 : Nat → Int32), Inv S1 → Bnd (B + 80000) S1 → J x G 661274 7118426 Q (wX G ad S1 ++ wM G bd S1 dn1) 440 [some (.ref sb), some (.ref (ad 0)), some (.ref (bd 0)), some (.int (nI k))] []) : J x G 661274 7118426 Q (wX G ad S ++ wM G bd S dn) 249 [some (.ref sb), some (.ref (ad 0)), some (.ref (bd 0)), some (.int (nI k))] [] := by
  refine j_aload_n X d_law_249 rfl ?_
  refine j_aload_n X d_law_250 rfl ?_
  refine j_iload_n X d_law_251 rfl ?_
  refine j_iconst (v := 1) X d_law_252 (by decide) ?_
  refine j_iadd X d_law_253 ?_
  refine j_top (nI_add k 1) ?_
  refine j_sldN X hs (show k + 1 < Ls by omega) (by omega) d_law_254 ?_
  refine j_callL X [.int (xs (k + 1))] [] (wM G bd S dn) (c_TG_clear _ _ _ S (xs (k + 1))) ok_law_28 (q0 := 0) rfl rfl rfl (Nat.le_of_ble_eq_true rfl) ⟨Nat.le_of_ble_eq_true rfl, Nat.le_of_ble_eq_true rfl⟩ ⟨rfl, rfl⟩ rfl ⟨Nat.le_of_ble_eq_true rfl, Nat.le_of_ble_eq_true rfl⟩ d_law_255 (fun r1 w1 hw1 => ?_)
  obtain ⟨S1, h1, rfl⟩ := hw1
  refine j_aload_n X d_law_258 rfl ?_
  refine j_aload_n X d_law_259 rfl ?_
  refine j_iload_n X d_law_260 rfl ?_
  refine j_iconst (v := 1) X d_law_261 (by decide) ?_
  refine j_iadd X d_law_262 ?_
  refine j_top (nI_add k 1) ?_
  refine j_sldN X hs (show k + 1 < Ls by omega) (by omega) d_law_263 ?_
  refine j_callR X [.int (xs (k + 1))] [.int r1] (wX G ad S1) (c_Md_clear _ _ _ S dn (xs (k + 1))) ok_law_32 (q0 := 0) rfl rfl rfl (Nat.le_of_ble_eq_true rfl) ⟨Nat.le_of_ble_eq_true rfl, Nat.le_of_ble_eq_true rfl⟩ ⟨rfl, rfl⟩ rfl ⟨Nat.le_of_ble_eq_true rfl, Nat.le_of_ble_eq_true rfl⟩ d_law_264 (fun r2 w2 hw2 => ?_)
  obtain ⟨S2, dn2, h2, rfl⟩ := hw2
  obtain ⟨e1, e2⟩ := h1.fn h2
  subst e2
  obtain ⟨hI1, hB1⟩ := h1.ok hI hB
  refine j_icmp_eq (tgt := 440) X d_law_267 (by decide) (fun _ => ?_) (fun h => absurd (e1) h)
  exact kk S1 dn2 hI1 hB1
set_option maxHeartbeats 4000000 in
set_option maxRecDepth 100000 in
theorem op_advance {x : Ctx} {G : Gid} {ad bd : Nat → Nat} {Q : State → Prop} (X : Fix x G code 4 R_law ret room_1) {sb Ls : Nat} {xs : Nat → Int32} (hs : Scr x sb Ls xs) (k : Nat) (hk : k + 5 ≤ Ls) (hL : Ls ≤ 2560) (S : St) (dn : Nat → Int32) (hI : Inv S) (B : Nat) (hB : Bnd B S) (hB2 : B + 80004 < 2 ^ 31) (kk : ∀ (S1 : St) (dn1 : Nat → Int32), Inv S1 → Bnd (B + 80000) S1 → J x G 661274 7118426 Q (wX G ad S1 ++ wM G bd S1 dn1) 440 [some (.ref sb), some (.ref (ad 0)), some (.ref (bd 0)), some (.int (nI k))] []) : J x G 661274 7118426 Q (wX G ad S ++ wM G bd S dn) 272 [some (.ref sb), some (.ref (ad 0)), some (.ref (bd 0)), some (.int (nI k))] [] := by
  refine j_aload_n X d_law_272 rfl ?_
  refine j_aload_n X d_law_273 rfl ?_
  refine j_iload_n X d_law_274 rfl ?_
  refine j_iconst (v := 1) X d_law_275 (by decide) ?_
  refine j_iadd X d_law_276 ?_
  refine j_top (nI_add k 1) ?_
  refine j_sldN X hs (show k + 1 < Ls by omega) (by omega) d_law_277 ?_
  refine j_callL X [.int (xs (k + 1))] [] (wM G bd S dn) (c_TG_advance _ _ _ S hI B hB (by omega) (xs (k + 1))) ok_law_33 (q0 := 0) rfl rfl rfl (Nat.le_of_ble_eq_true rfl) ⟨Nat.le_of_ble_eq_true rfl, Nat.le_of_ble_eq_true rfl⟩ ⟨rfl, rfl⟩ rfl ⟨Nat.le_of_ble_eq_true rfl, Nat.le_of_ble_eq_true rfl⟩ d_law_278 (fun r1 w1 hw1 => ?_)
  obtain ⟨S1, h1, rfl⟩ := hw1
  refine j_aload_n X d_law_281 rfl ?_
  refine j_aload_n X d_law_282 rfl ?_
  refine j_iload_n X d_law_283 rfl ?_
  refine j_iconst (v := 1) X d_law_284 (by decide) ?_
  refine j_iadd X d_law_285 ?_
  refine j_top (nI_add k 1) ?_
  refine j_sldN X hs (show k + 1 < Ls by omega) (by omega) d_law_286 ?_
  refine j_callR X [.int (xs (k + 1))] [.int r1] (wX G ad S1) (c_Md_advance _ _ _ S dn hI B hB (by omega) (xs (k + 1))) ok_law_36 (q0 := 0) rfl rfl rfl (Nat.le_of_ble_eq_true rfl) ⟨Nat.le_of_ble_eq_true rfl, Nat.le_of_ble_eq_true rfl⟩ ⟨rfl, rfl⟩ rfl ⟨Nat.le_of_ble_eq_true rfl, Nat.le_of_ble_eq_true rfl⟩ d_law_287 (fun r2 w2 hw2 => ?_)
  obtain ⟨S2, dn2, h2, rfl⟩ := hw2
  obtain ⟨e1, e2⟩ := h1.fn h2
  subst e2
  obtain ⟨hI1, hB1⟩ := h1.ok hI hB
  refine j_icmp_eq (tgt := 440) X d_law_290 (by decide) (fun _ => ?_) (fun h => absurd (e1) h)
  exact kk S1 dn2 hI1 hB1
set_option maxHeartbeats 4000000 in
set_option maxRecDepth 100000 in
theorem op_next {x : Ctx} {G : Gid} {ad bd : Nat → Nat} {Q : State → Prop} (X : Fix x G code 4 R_law ret room_1) {sb Ls : Nat} {xs : Nat → Int32} (hs : Scr x sb Ls xs) (k : Nat) (hk : k + 5 ≤ Ls) (hL : Ls ≤ 2560) (S : St) (dn : Nat → Int32) (hI : Inv S) (B : Nat) (hB : Bnd B S) (hB2 : B + 80004 < 2 ^ 31) (kk : ∀ (S1 : St) (dn1 : Nat → Int32), Inv S1 → Bnd (B + 80000) S1 → J x G 661274 7118426 Q (wX G ad S1 ++ wM G bd S1 dn1) 440 [some (.ref sb), some (.ref (ad 0)), some (.ref (bd 0)), some (.int (nI k))] []) : J x G 661274 7118426 Q (wX G ad S ++ wM G bd S dn) 295 [some (.ref sb), some (.ref (ad 0)), some (.ref (bd 0)), some (.int (nI k))] [] := by
  refine j_aload_n X d_law_295 rfl ?_
  refine j_aload_n X d_law_296 rfl ?_
  refine j_iload_n X d_law_297 rfl ?_
  refine j_iconst (v := 1) X d_law_298 (by decide) ?_
  refine j_iadd X d_law_299 ?_
  refine j_top (nI_add k 1) ?_
  refine j_sldN X hs (show k + 1 < Ls by omega) (by omega) d_law_300 ?_
  refine j_callL X [.int (xs (k + 1))] [] (wM G bd S dn) (c_TG_next _ _ _ S hI B hB (by omega) (xs (k + 1))) ok_law_37 (q0 := 0) rfl rfl rfl (Nat.le_of_ble_eq_true rfl) ⟨Nat.le_of_ble_eq_true rfl, Nat.le_of_ble_eq_true rfl⟩ ⟨rfl, rfl⟩ rfl ⟨Nat.le_of_ble_eq_true rfl, Nat.le_of_ble_eq_true rfl⟩ d_law_301 (fun r1 w1 hw1 => ?_)
  obtain ⟨S1, h1, rfl⟩ := hw1
  refine j_aload_n X d_law_304 rfl ?_
  refine j_aload_n X d_law_305 rfl ?_
  refine j_iload_n X d_law_306 rfl ?_
  refine j_iconst (v := 1) X d_law_307 (by decide) ?_
  refine j_iadd X d_law_308 ?_
  refine j_top (nI_add k 1) ?_
  refine j_sldN X hs (show k + 1 < Ls by omega) (by omega) d_law_309 ?_
  refine j_callR X [.int (xs (k + 1))] [.int r1] (wX G ad S1) (c_Md_next _ _ _ S dn hI B hB (by omega) (xs (k + 1))) ok_law_40 (q0 := 0) rfl rfl rfl (Nat.le_of_ble_eq_true rfl) ⟨Nat.le_of_ble_eq_true rfl, Nat.le_of_ble_eq_true rfl⟩ ⟨rfl, rfl⟩ rfl ⟨Nat.le_of_ble_eq_true rfl, Nat.le_of_ble_eq_true rfl⟩ d_law_310 (fun r2 w2 hw2 => ?_)
  obtain ⟨S2, dn2, h2, rfl⟩ := hw2
  obtain ⟨e1, e2⟩ := h1.fn h2
  subst e2
  obtain ⟨hI1, hB1⟩ := h1.ok hI hB
  refine j_icmp_eq (tgt := 440) X d_law_313 (by decide) (fun _ => ?_) (fun h => absurd (e1) h)
  exact kk S1 dn2 hI1 hB1
set_option maxHeartbeats 4000000 in
set_option maxRecDepth 100000 in
theorem op_timer {x : Ctx} {G : Gid} {ad bd : Nat → Nat} {Q : State → Prop} (X : Fix x G code 4 R_law ret room_1) {sb Ls : Nat} {xs : Nat → Int32} (hs : Scr x sb Ls xs) (k : Nat) (hk : k + 5 ≤ Ls) (hL : Ls ≤ 2560) (S : St) (dn : Nat → Int32) (hI : Inv S) (B : Nat) (hB : Bnd B S) (hB2 : B + 80004 < 2 ^ 31) (kk : ∀ (S1 : St) (dn1 : Nat → Int32), Inv S1 → Bnd (B + 80000) S1 → J x G 661274 7118426 Q (wX G ad S1 ++ wM G bd S1 dn1) 440 [some (.ref sb), some (.ref (ad 0)), some (.ref (bd 0)), some (.int (nI k))] []) : J x G 661274 7118426 Q (wX G ad S ++ wM G bd S dn) 318 [some (.ref sb), some (.ref (ad 0)), some (.ref (bd 0)), some (.int (nI k))] [] := by
  refine j_aload_n X d_law_318 rfl ?_
  refine j_aload_n X d_law_319 rfl ?_
  refine j_iload_n X d_law_320 rfl ?_
  refine j_iconst (v := 1) X d_law_321 (by decide) ?_
  refine j_iadd X d_law_322 ?_
  refine j_top (nI_add k 1) ?_
  refine j_sldN X hs (show k + 1 < Ls by omega) (by omega) d_law_323 ?_
  refine j_aload_n X d_law_324 rfl ?_
  refine j_iload_n X d_law_325 rfl ?_
  refine j_iconst (v := 2) X d_law_326 (by decide) ?_
  refine j_iadd X d_law_327 ?_
  refine j_top (nI_add k 2) ?_
  refine j_sldN X hs (show k + 2 < Ls by omega) (by omega) d_law_328 ?_
  refine j_callL X [.int (xs (k + 1)), .int (xs (k + 2))] [] (wM G bd S dn) (c_TG_timer _ _ _ S (fun j => hI 3 j) (fun j => hI 4 j) (xs (k + 1)) (xs (k + 2))) ok_law_41 (q0 := 0) rfl rfl rfl (Nat.le_of_ble_eq_true rfl) ⟨Nat.le_of_ble_eq_true rfl, Nat.le_of_ble_eq_true rfl⟩ ⟨rfl, rfl⟩ rfl ⟨Nat.le_of_ble_eq_true rfl, Nat.le_of_ble_eq_true rfl⟩ d_law_329 (fun r1 w1 hw1 => ?_)
  obtain ⟨rfl, h1⟩ := hw1
  refine j_aload_n X d_law_332 rfl ?_
  refine j_aload_n X d_law_333 rfl ?_
  refine j_iload_n X d_law_334 rfl ?_
  refine j_iconst (v := 1) X d_law_335 (by decide) ?_
  refine j_iadd X d_law_336 ?_
  refine j_top (nI_add k 1) ?_
  refine j_sldN X hs (show k + 1 < Ls by omega) (by omega) d_law_337 ?_
  refine j_aload_n X d_law_338 rfl ?_
  refine j_iload_n X d_law_339 rfl ?_
  refine j_iconst (v := 2) X d_law_340 (by decide) ?_
  refine j_iadd X d_law_341 ?_
  refine j_top (nI_add k 2) ?_
  refine j_sldN X hs (show k + 2 < Ls by omega) (by omega) d_law_342 ?_
  refine j_callR X [.int (xs (k + 1)), .int (xs (k + 2))] [.int r1] (wX G ad S) (c_Md_timer _ _ _ S dn (fun j => hI 3 j) (fun j => hI 4 j) (xs (k + 1)) (xs (k + 2))) ok_law_45 (q0 := 0) rfl rfl rfl (Nat.le_of_ble_eq_true rfl) ⟨Nat.le_of_ble_eq_true rfl, Nat.le_of_ble_eq_true rfl⟩ ⟨rfl, rfl⟩ rfl ⟨Nat.le_of_ble_eq_true rfl, Nat.le_of_ble_eq_true rfl⟩ d_law_343 (fun r2 w2 hw2 => ?_)
  obtain ⟨rfl, h2⟩ := hw2
  have e1 := h1.fn h2
  refine j_icmp_eq (tgt := 440) X d_law_346 (by decide) (fun _ => ?_) (fun h => absurd (e1) h)
  exact kk S dn hI (hB.mono (by omega))
set_option maxHeartbeats 4000000 in
set_option maxRecDepth 100000 in
theorem op_gateOf {x : Ctx} {G : Gid} {ad bd : Nat → Nat} {Q : State → Prop} (X : Fix x G code 4 R_law ret room_1) {sb Ls : Nat} {xs : Nat → Int32} (hs : Scr x sb Ls xs) (k : Nat) (hk : k + 5 ≤ Ls) (hL : Ls ≤ 2560) (S : St) (dn : Nat → Int32) (hI : Inv S) (B : Nat) (hB : Bnd B S) (hB2 : B + 80004 < 2 ^ 31) (kk : ∀ (S1 : St) (dn1 : Nat → Int32), Inv S1 → Bnd (B + 80000) S1 → J x G 661274 7118426 Q (wX G ad S1 ++ wM G bd S1 dn1) 440 [some (.ref sb), some (.ref (ad 0)), some (.ref (bd 0)), some (.int (nI k))] []) : J x G 661274 7118426 Q (wX G ad S ++ wM G bd S dn) 351 [some (.ref sb), some (.ref (ad 0)), some (.ref (bd 0)), some (.int (nI k))] [] := by
  refine j_aload_n X d_law_351 rfl ?_
  refine j_aload_n X d_law_352 rfl ?_
  refine j_iload_n X d_law_353 rfl ?_
  refine j_iconst (v := 1) X d_law_354 (by decide) ?_
  refine j_iadd X d_law_355 ?_
  refine j_top (nI_add k 1) ?_
  refine j_sldN X hs (show k + 1 < Ls by omega) (by omega) d_law_356 ?_
  refine j_aload_n X d_law_357 rfl ?_
  refine j_iload_n X d_law_358 rfl ?_
  refine j_iconst (v := 2) X d_law_359 (by decide) ?_
  refine j_iadd X d_law_360 ?_
  refine j_top (nI_add k 2) ?_
  refine j_sldN X hs (show k + 2 < Ls by omega) (by omega) d_law_361 ?_
  refine j_callL X [.int (xs (k + 1)), .int (xs (k + 2))] [] (wM G bd S dn) (c_TG_gateOf _ _ _ S (xs (k + 1)) (xs (k + 2))) ok_law_46 (q0 := 0) rfl rfl rfl (Nat.le_of_ble_eq_true rfl) ⟨Nat.le_of_ble_eq_true rfl, Nat.le_of_ble_eq_true rfl⟩ ⟨rfl, rfl⟩ rfl ⟨Nat.le_of_ble_eq_true rfl, Nat.le_of_ble_eq_true rfl⟩ d_law_362 (fun r1 w1 hw1 => ?_)
  obtain ⟨rfl, h1⟩ := hw1
  refine j_aload_n X d_law_365 rfl ?_
  refine j_aload_n X d_law_366 rfl ?_
  refine j_iload_n X d_law_367 rfl ?_
  refine j_iconst (v := 1) X d_law_368 (by decide) ?_
  refine j_iadd X d_law_369 ?_
  refine j_top (nI_add k 1) ?_
  refine j_sldN X hs (show k + 1 < Ls by omega) (by omega) d_law_370 ?_
  refine j_aload_n X d_law_371 rfl ?_
  refine j_iload_n X d_law_372 rfl ?_
  refine j_iconst (v := 2) X d_law_373 (by decide) ?_
  refine j_iadd X d_law_374 ?_
  refine j_top (nI_add k 2) ?_
  refine j_sldN X hs (show k + 2 < Ls by omega) (by omega) d_law_375 ?_
  refine j_callR X [.int (xs (k + 1)), .int (xs (k + 2))] [.int r1] (wX G ad S) (c_Md_gateOf _ _ _ S dn (xs (k + 1)) (xs (k + 2))) ok_law_49 (q0 := 0) rfl rfl rfl (Nat.le_of_ble_eq_true rfl) ⟨Nat.le_of_ble_eq_true rfl, Nat.le_of_ble_eq_true rfl⟩ ⟨rfl, rfl⟩ rfl ⟨Nat.le_of_ble_eq_true rfl, Nat.le_of_ble_eq_true rfl⟩ d_law_376 (fun r2 w2 hw2 => ?_)
  obtain ⟨rfl, h2⟩ := hw2
  have e1 := h1.fn h2
  refine j_icmp_eq (tgt := 440) X d_law_379 (by decide) (fun _ => ?_) (fun h => absurd (e1) h)
  exact kk S dn hI (hB.mono (by omega))
set_option maxHeartbeats 4000000 in
set_option maxRecDepth 100000 in
theorem op_look {x : Ctx} {G : Gid} {ad bd : Nat → Nat} {Q : State → Prop} (X : Fix x G code 4 R_law ret room_1) {sb Ls : Nat} {xs : Nat → Int32} (hs : Scr x sb Ls xs) (k : Nat) (hk : k + 5 ≤ Ls) (hL : Ls ≤ 2560) (S : St) (dn : Nat → Int32) (hI : Inv S) (B : Nat) (hB : Bnd B S) (hB2 : B + 80004 < 2 ^ 31) (kk : ∀ (S1 : St) (dn1 : Nat → Int32), Inv S1 → Bnd (B + 80000) S1 → J x G 661274 7118426 Q (wX G ad S1 ++ wM G bd S1 dn1) 440 [some (.ref sb), some (.ref (ad 0)), some (.ref (bd 0)), some (.int (nI k))] []) : J x G 661274 7118426 Q (wX G ad S ++ wM G bd S dn) 384 [some (.ref sb), some (.ref (ad 0)), some (.ref (bd 0)), some (.int (nI k))] [] := by
  refine j_aload_n X d_law_384 rfl ?_
  refine j_aload_n X d_law_385 rfl ?_
  refine j_iload_n X d_law_386 rfl ?_
  refine j_iconst (v := 1) X d_law_387 (by decide) ?_
  refine j_iadd X d_law_388 ?_
  refine j_top (nI_add k 1) ?_
  refine j_sldN X hs (show k + 1 < Ls by omega) (by omega) d_law_389 ?_
  refine j_callL X [.int (xs (k + 1))] [] (wM G bd S dn) (c_TG_look _ _ _ S hI (xs (k + 1))) ok_law_50 (q0 := 0) rfl rfl rfl (Nat.le_of_ble_eq_true rfl) ⟨Nat.le_of_ble_eq_true rfl, Nat.le_of_ble_eq_true rfl⟩ ⟨rfl, rfl⟩ rfl ⟨Nat.le_of_ble_eq_true rfl, Nat.le_of_ble_eq_true rfl⟩ d_law_390 (fun r1 w1 hw1 => ?_)
  obtain ⟨rfl, h1⟩ := hw1
  refine j_aload_n X d_law_393 rfl ?_
  refine j_aload_n X d_law_394 rfl ?_
  refine j_iload_n X d_law_395 rfl ?_
  refine j_iconst (v := 1) X d_law_396 (by decide) ?_
  refine j_iadd X d_law_397 ?_
  refine j_top (nI_add k 1) ?_
  refine j_sldN X hs (show k + 1 < Ls by omega) (by omega) d_law_398 ?_
  refine j_callR X [.int (xs (k + 1))] [.int r1] (wX G ad S) (c_Md_look _ _ _ S dn hI (xs (k + 1))) ok_law_53 (q0 := 0) rfl rfl rfl (Nat.le_of_ble_eq_true rfl) ⟨Nat.le_of_ble_eq_true rfl, Nat.le_of_ble_eq_true rfl⟩ ⟨rfl, rfl⟩ rfl ⟨Nat.le_of_ble_eq_true rfl, Nat.le_of_ble_eq_true rfl⟩ d_law_399 (fun r2 w2 hw2 => ?_)
  obtain ⟨rfl, h2⟩ := hw2
  have e1 := h1.fn h2
  refine j_icmp_eq (tgt := 440) X d_law_402 (by decide) (fun _ => ?_) (fun h => absurd (e1) h)
  exact kk S dn hI (hB.mono (by omega))
set_option maxHeartbeats 4000000 in
set_option maxRecDepth 100000 in
theorem op_served {x : Ctx} {G : Gid} {ad bd : Nat → Nat} {Q : State → Prop} (X : Fix x G code 4 R_law ret room_1) {sb Ls : Nat} {xs : Nat → Int32} (hs : Scr x sb Ls xs) (k : Nat) (hk : k + 5 ≤ Ls) (hL : Ls ≤ 2560) (S : St) (dn : Nat → Int32) (hI : Inv S) (B : Nat) (hB : Bnd B S) (hB2 : B + 80004 < 2 ^ 31) (kk : ∀ (S1 : St) (dn1 : Nat → Int32), Inv S1 → Bnd (B + 80000) S1 → J x G 661274 7118426 Q (wX G ad S1 ++ wM G bd S1 dn1) 440 [some (.ref sb), some (.ref (ad 0)), some (.ref (bd 0)), some (.int (nI k))] []) : J x G 661274 7118426 Q (wX G ad S ++ wM G bd S dn) 407 [some (.ref sb), some (.ref (ad 0)), some (.ref (bd 0)), some (.int (nI k))] [] := by
  refine j_aload_n X d_law_407 rfl ?_
  refine j_aload_n X d_law_408 rfl ?_
  refine j_iload_n X d_law_409 rfl ?_
  refine j_iconst (v := 1) X d_law_410 (by decide) ?_
  refine j_iadd X d_law_411 ?_
  refine j_top (nI_add k 1) ?_
  refine j_sldN X hs (show k + 1 < Ls by omega) (by omega) d_law_412 ?_
  refine j_aload_n X d_law_413 rfl ?_
  refine j_iload_n X d_law_414 rfl ?_
  refine j_iconst (v := 2) X d_law_415 (by decide) ?_
  refine j_iadd X d_law_416 ?_
  refine j_top (nI_add k 2) ?_
  refine j_sldN X hs (show k + 2 < Ls by omega) (by omega) d_law_417 ?_
  refine j_callL X [.int (xs (k + 1)), .int (xs (k + 2))] [] (wM G bd S dn) (c_TG_served _ _ _ S hB.choose hB.choose_spec.2 (by have := hB.choose_spec.1; omega) (xs (k + 1)) (xs (k + 2))) ok_law_54 (q0 := 0) rfl rfl rfl (Nat.le_of_ble_eq_true rfl) ⟨Nat.le_of_ble_eq_true rfl, Nat.le_of_ble_eq_true rfl⟩ ⟨rfl, rfl⟩ rfl ⟨Nat.le_of_ble_eq_true rfl, Nat.le_of_ble_eq_true rfl⟩ d_law_418 (fun r1 w1 hw1 => ?_)
  obtain ⟨rfl, h1⟩ := hw1
  refine j_aload_n X d_law_421 rfl ?_
  refine j_aload_n X d_law_422 rfl ?_
  refine j_iload_n X d_law_423 rfl ?_
  refine j_iconst (v := 1) X d_law_424 (by decide) ?_
  refine j_iadd X d_law_425 ?_
  refine j_top (nI_add k 1) ?_
  refine j_sldN X hs (show k + 1 < Ls by omega) (by omega) d_law_426 ?_
  refine j_aload_n X d_law_427 rfl ?_
  refine j_iload_n X d_law_428 rfl ?_
  refine j_iconst (v := 2) X d_law_429 (by decide) ?_
  refine j_iadd X d_law_430 ?_
  refine j_top (nI_add k 2) ?_
  refine j_sldN X hs (show k + 2 < Ls by omega) (by omega) d_law_431 ?_
  refine j_callR X [.int (xs (k + 1)), .int (xs (k + 2))] [.int r1] (wX G ad S) (c_Md_served _ _ _ S dn hB.choose hB.choose_spec.2 (by have := hB.choose_spec.1; omega) (xs (k + 1)) (xs (k + 2))) ok_law_57 (q0 := 0) rfl rfl rfl (Nat.le_of_ble_eq_true rfl) ⟨Nat.le_of_ble_eq_true rfl, Nat.le_of_ble_eq_true rfl⟩ ⟨rfl, rfl⟩ rfl ⟨Nat.le_of_ble_eq_true rfl, Nat.le_of_ble_eq_true rfl⟩ d_law_432 (fun r2 w2 hw2 => ?_)
  obtain ⟨rfl, h2⟩ := hw2
  have e1 := h1.fn h2
  refine j_icmp_eq (tgt := 440) X d_law_435 (by decide) (fun _ => ?_) (fun h => absurd (e1) h)
  exact kk S dn hI (hB.mono (by omega))
end
section
set_option maxHeartbeats 4000000 in
set_option maxRecDepth 100000 in
theorem law_loop {x : Ctx} {G : Gid} {ad bd : Nat → Nat} (X : Fix x G code 4 R_law ret room_1) {sb Ls : Nat} {xs : Nat → Int32} (hs : Scr x sb Ls xs) (hz : IsLaw x sb) (hL : Ls ≤ 2560) : ∀ (f i : Nat) (S : St) (dn : Nat → Int32), Ls + 6 ≤ 5 * i + f → 5 * i ≤ Ls → Inv S → Bnd (80000 * i) S → J x G 661274 7118426 (LZ x sb) (wX G ad S ++ wM G bd S dn) 18 [some (.ref sb), some (.ref (ad 0)), some (.ref (bd 0)), some (.int (nI (5 * i)))] [] := by
  intro f
  induction f with
  | zero => intro i S dn hf hi; exact absurd hf (by omega)
  | succ f ih =>
    intro i S dn hf hi hI hB
    refine j_iload_n X d_law_18 rfl ?_
    refine j_aload_n X d_law_19 rfl ?_
    refine j_slen X hs d_law_20 ?_
    refine j_iconst (v := 5) X d_law_21 (by decide) ?_
    refine j_isub X d_law_22 ?_
    have e5 : (nI Ls - 5 : Int32).toInt = (Ls : Int) - 5 := pk_sub_toInt (b := 5) (by omega) (by decide)
    have ek : (nI (5 * i)).toInt = ((5 * i : Nat) : Int) := nI_toInt (by omega)
    refine j_icmp_gt (tgt := 446) X d_law_23 (by decide) (fun h1 => ?_) (fun h1 => ?_)
    · refine j_iconst (v := 1) X d_law_446 (by decide) ?_
      exact j_lret X hz d_law_447
    · rw [Int32.lt_iff_toInt_lt, e5, ek] at h1
      have hk : 5 * i + 5 ≤ Ls := by omega
      have kk : ∀ (S1 : St) (dn1 : Nat → Int32), Inv S1 → Bnd (80000 * i + 80000) S1 → J x G 661274 7118426 (LZ x sb) (wX G ad S1 ++ wM G bd S1 dn1) 440 [some (.ref sb), some (.ref (ad 0)), some (.ref (bd 0)), some (.int (nI (5 * i)))] [] := by
        intro S1 dn1 hI1 hB1
        refine j_iinc (v := nI (5 * (i + 1))) X d_law_440 rfl (nI_add (5 * i) 5) ?_
        refine j_goto (tgt := 18) X d_law_443 (by decide) ?_
        exact ih (i + 1) S1 dn1 (by omega) (by omega) hI1 hB1
      refine j_aload_n X d_law_26 rfl ?_
      refine j_iload_n X d_law_27 rfl ?_
      refine j_sldN X hs (show 5 * i < Ls by omega) (by omega) d_law_28 ?_
      refine j_bipush (v := 15) X d_law_29 (by decide) ?_
      refine j_iand X d_law_31 ?_
      rcases sw_10 (xs (5 * i) &&& 15) with hsw | hsw
      · rcases hsw with e | e | e | e | e | e | e | e | e | e
        · refine j_top e ?_
          refine j_tableIn (tgt := 88) X d_law_32 (by decide) (by decide) rfl (by decide) ?_
          exact op_set X hs (5 * i) hk hL S dn hI (80000 * i) hB (by omega) kk
        · refine j_top e ?_
          refine j_tableIn (tgt := 157) X d_law_32 (by decide) (by decide) rfl (by decide) ?_
          exact op_turn X hs (5 * i) hk hL S dn hI (80000 * i) hB (by omega) kk
        · refine j_top e ?_
          refine j_tableIn (tgt := 206) X d_law_32 (by decide) (by decide) rfl (by decide) ?_
          exact op_gate X hs (5 * i) hk hL S dn hI (80000 * i) hB (by omega) kk
        · refine j_top e ?_
          refine j_tableIn (tgt := 249) X d_law_32 (by decide) (by decide) rfl (by decide) ?_
          exact op_clear X hs (5 * i) hk hL S dn hI (80000 * i) hB (by omega) kk
        · refine j_top e ?_
          refine j_tableIn (tgt := 272) X d_law_32 (by decide) (by decide) rfl (by decide) ?_
          exact op_advance X hs (5 * i) hk hL S dn hI (80000 * i) hB (by omega) kk
        · refine j_top e ?_
          refine j_tableIn (tgt := 295) X d_law_32 (by decide) (by decide) rfl (by decide) ?_
          exact op_next X hs (5 * i) hk hL S dn hI (80000 * i) hB (by omega) kk
        · refine j_top e ?_
          refine j_tableIn (tgt := 318) X d_law_32 (by decide) (by decide) rfl (by decide) ?_
          exact op_timer X hs (5 * i) hk hL S dn hI (80000 * i) hB (by omega) kk
        · refine j_top e ?_
          refine j_tableIn (tgt := 351) X d_law_32 (by decide) (by decide) rfl (by decide) ?_
          exact op_gateOf X hs (5 * i) hk hL S dn hI (80000 * i) hB (by omega) kk
        · refine j_top e ?_
          refine j_tableIn (tgt := 384) X d_law_32 (by decide) (by decide) rfl (by decide) ?_
          exact op_look X hs (5 * i) hk hL S dn hI (80000 * i) hB (by omega) kk
        · refine j_top e ?_
          refine j_tableIn (tgt := 407) X d_law_32 (by decide) (by decide) rfl (by decide) ?_
          exact op_served X hs (5 * i) hk hL S dn hI (80000 * i) hB (by omega) kk
      · refine j_tableOut (tgt := 440) X d_law_32 hsw (by decide) ?_
        exact kk S dn hI (hB.mono (by omega))
set_option maxHeartbeats 4000000 in
set_option maxRecDepth 100000 in
theorem law_start {x : Ctx} {G : Gid} (X : Fix x G code 4 R_law ret room_1) {sb Ls : Nat} {xs : Nat → Int32} (hs : Scr x sb Ls xs) (hz : IsLaw x sb) (hL : Ls ≤ 2560) : J x G 0 0 (LZ x sb) [] 0 [some (.ref sb), none, none, none] [] := by
  refine j_new (ci := 3) (fs := [.null, .null, .null, .int 0, .int 0]) X i_TG t_TG t_TG_ok cl_law_7 inst_TG ini_TG rfl (fun j hj => by rcases (show j = 0 ∨ j = 1 ∨ j = 2 ∨ j = 3 ∨ j = 4 by omega) with rfl | rfl | rfl | rfl | rfl <;> rfl) (Nat.le_of_ble_eq_true rfl) (Nat.le_of_ble_eq_true rfl) d_law_0 (fun q0 => ?_)
  refine j_dup X d_law_3 rfl ?_
  refine j_callI X [] [.ref q0] [] [] (c_TG_init _ _ q0) ok_law_9 rfl rfl (Nat.le_of_ble_eq_true rfl) ⟨Nat.le_of_ble_eq_true rfl, Nat.le_of_ble_eq_true rfl⟩ ⟨rfl, rfl⟩ rfl ⟨Nat.le_of_ble_eq_true rfl, Nat.le_of_ble_eq_true rfl⟩ d_law_4 (fun w1 hw => ?_)
  obtain ⟨ad, rfl, rfl⟩ := hw
  refine j_eqw (ws' := wX G ad S0) rfl ?_
  refine j_astore_n X d_law_7 (Nat.le_of_ble_eq_true rfl) ?_
  refine j_new (ci := 4) (fs := [.int 0, .int 0, .int 0, .int 0, .null, .null, .null, .null, .null, .null, .null, .null, .null, .null, .null, .null, .null, .null]) X i_Md t_Md t_Md_ok cl_law_10 inst_Md ini_Md rfl (fun j hj => by rcases (show j = 0 ∨ j = 1 ∨ j = 2 ∨ j = 3 ∨ j = 4 ∨ j = 5 ∨ j = 6 ∨ j = 7 ∨ j = 8 ∨ j = 9 ∨ j = 10 ∨ j = 11 ∨ j = 12 ∨ j = 13 ∨ j = 14 ∨ j = 15 ∨ j = 16 ∨ j = 17 by omega) with rfl | rfl | rfl | rfl | rfl | rfl | rfl | rfl | rfl | rfl | rfl | rfl | rfl | rfl | rfl | rfl | rfl | rfl <;> rfl) (Nat.le_of_ble_eq_true rfl) (Nat.le_of_ble_eq_true rfl) d_law_8 (fun q1 => ?_)
  refine j_dup X d_law_11 rfl ?_
  refine j_callI X [] [.ref q1] (wX G ad S0) [] (c_Md_init _ _ q1) ok_law_12 rfl rfl (Nat.le_of_ble_eq_true rfl) ⟨Nat.le_of_ble_eq_true rfl, Nat.le_of_ble_eq_true rfl⟩ ⟨rfl, rfl⟩ rfl ⟨Nat.le_of_ble_eq_true rfl, Nat.le_of_ble_eq_true rfl⟩ d_law_12 (fun w1 hw => ?_)
  obtain ⟨bd, dn, rfl, rfl⟩ := hw
  refine j_eqw (ws' := wX G ad S0 ++ wM G bd S0 dn) rfl ?_
  refine j_astore_n X d_law_15 (Nat.le_of_ble_eq_true rfl) ?_
  refine j_iconst (v := 0) X d_law_16 (by decide) ?_
  refine j_istore_n X d_law_17 (Nat.le_of_ble_eq_true rfl) ?_
  refine j_widen (a' := 661274) (b' := 7118426) (Nat.le_of_ble_eq_true rfl) (Nat.le_of_ble_eq_true rfl) ?_
  exact law_loop X hs hz hL (Ls + 6) 0 S0 dn (by omega) (by omega) Inv_S0 Bnd_S0
end
section
theorem arr_known {s : State} {args : Array Value} {ty : FieldType} (h : (Cond.arrayClass ty).before args s = true) : ∃ cA : ClassId, ArrOfT s cA ty ∧ s.vm.findClass ("[" ++ ty.toString) = some cA := by
  obtain ⟨c, k, comp, h1, h2, h3⟩ := Cond.arrayClass_spec h
  exact ⟨c, fun n z => ⟨fun k h => (by cases h), k, h2, comp, h3⟩, h1⟩
theorem arr_over {s : State} {C : String} (h : va_AO C s) : ∃ cA : ClassId, ArrOfT s cA (.object C) ∧ va_RA s cA (.object C) := by
  obtain ⟨comp, c, k, h1, h2, h3, h4, h5⟩ := Cond.arrayOver_spec h
  exact ⟨c, fun n z => ⟨fun k h => (by cases h), k, h3, comp, h4⟩, k, comp, h3, h4, h1, h5⟩
theorem law_known {s : State} {args : Array Value} (hts : ∀ w ∈ lw_tbl, w.before args s = true) : ∃ G : Gid, KG G s := by
  have hg : ∀ w ∈ gtbl, w.before args s = true := fun w hw => hts w (List.mem_filter.mp hw).1
  obtain ⟨c0, i0, h0⟩ := u_known (C := R_Tm) (T := F_Tm) (N := 9) (n := 9) hg i_Tm (hg _ inst_Tm)
  obtain ⟨c1, i1, h1⟩ := u_known (C := R_Gt) (T := F_Gt) (N := 6) (n := 6) hg i_Gt (hg _ inst_Gt)
  obtain ⟨c2, i2, h2⟩ := u_known (C := R_Bk) (T := F_Bk) (N := 4) (n := 4) hg i_Bk (hg _ inst_Bk)
  obtain ⟨c3, i3, h3⟩ := u_known (C := R_TG) (T := F_TG) (N := 5) (n := 5) hg i_TG (hg _ inst_TG)
  obtain ⟨c4, i4, h4⟩ := u_known (C := R_Md) (T := F_Md) (N := 18) (n := 18) hg i_Md (hg _ inst_Md)
  have hT : va_AO "TimerGates$Timer" s := va_AO.of (hts _ aov_Tm)
  have hGt : va_AO "TimerGates$Gate" s := va_AO.of (hts _ aov_Gt)
  obtain ⟨a0, A0, B0⟩ := arr_known (hg _ acl_int)
  obtain ⟨a1, A1, B1⟩ := arr_known (hg _ acl_boolean)
  obtain ⟨a2, A2, B2⟩ := arr_over hT
  obtain ⟨a3, A3, B3⟩ := arr_over hGt
  refine ⟨((fun k => [c0, c1, c2, c3, c4].getD k 0, fun k => [i0, i1, i2, i3, i4].getD k i0), fun k => [a0, a1, a2, a3].getD k 0), ⟨fun k q hq => ?_, fun k q hq => ?_⟩, fun w hw => va_Nw.of (nest_on w hw) (hts w (nest_tbl w hw)), hT, hGt⟩
  · match k, hq with
    | 0, hq => cases hq; exact h0
    | 1, hq => cases hq; exact h1
    | 2, hq => cases hq; exact h2
    | 3, hq => cases hq; exact h3
    | 4, hq => cases hq; exact h4
    | k + 5, hq => simp [classes] at hq
  · match k, hq with
    | 0, hq => cases hq; exact ⟨A0, B0⟩
    | 1, hq => cases hq; exact ⟨A1, B1⟩
    | 2, hq => cases hq; exact ⟨A2, B2⟩
    | 3, hq => cases hq; exact ⟨A3, B3⟩
    | k + 4, hq => simp [tysG] at hq
set_option maxHeartbeats 4000000 in
theorem whole_start {p : Program} {e : Env} {s : State} {m : MethodId} {below : List Frame} {meth : Method} {c : Code} (l : Launch) {b L : Nat} {xs : Nat → Int32} (hL : L ≤ 2560) (C0 : lw_At p s m meth c b L xs) : W p l e room_1 s m #[Value.ref b] below meth c s.heap [] 0 0 (lw_Z below #[Value.ref b] s) (entryFrame m ([Value.ref b] : List Value).toArray 4) := by
  obtain ⟨hx, hb, hr, hml, hown, hts, hX, hbl, hlocks, hgv⟩ := C0
  obtain ⟨G, hK⟩ := law_known hts
  have h := law_start (x := (p, l, e, room_1, s, m, #[Value.ref b], below, meth, c, fun q => s.heap.size ≤ q)) (G := G) ⟨⟨hx, hb, hml, hown, fun w hw => hts w (List.mem_filter.mp hw).1⟩, hK, fun _ h => h, hlocks, hr, rfl⟩ (sb := b) (Ls := L) (xs := xs) ⟨hX, hbl, Nat.not_le.mpr hbl⟩ ⟨rfl, fun _ h => h⟩ hL
  rw [lg_entry_eq]
  have hl := lx_entry (av := [Value.ref b]) (n := 4) rfl (Nat.le_of_ble_eq_true rfl)
  exact h s.heap [] _ (fun k q h => by simp at h) ⟨fun i j p q h => by simp at h, fun k q h => by simp at h⟩ va_S.rf hl
set_option maxHeartbeats 4000000 in
theorem lw_walk (l : Launch) (b : Addr) (xs : List Int32) : MetFree l x (headSpec (Jvm.Cond.code x code maxLocals ret :: tables_1) room_1) (lw_P b xs) (fun _ _ _ _ _ => True) lw_Q := by
  refine MetFree.of_bodyS (code := code) (maxLocals := maxLocals) (ret := ret) (by decide) ?_ ?_
  · intro args s m h hn
    obtain ⟨meth, c, h1, h2, h3, h4, h5, h6, -, -⟩ := Cond.code_spec hn (atoms_spec (ws := Jvm.Cond.code x code maxLocals ret :: tables_1) h _ List.mem_cons_self)
    exact ⟨meth, c, h1, h2, h3, h4, h5, h6⟩
  · intro p e s m args below meth c s₁ B hml0 hP _
    obtain ⟨rfl, hx, hbd, hgv⟩ := hP
    obtain ⟨scr, harrAt, hlist, hof, hsmall⟩ := hx
    obtain ⟨hcb, hkn, -, -⟩ := State.arrayAt?_spec harrAt
    have hown : s.vm.findClass R_law = some m.cls := findClass_of_methodNamed B.named
    have hts0 : ∀ c ∈ (Jvm.Cond.code x code maxLocals ret :: tables_1), c.before #[Value.ref b] s = true := atoms_spec (ws := Jvm.Cond.code x code maxLocals ret :: tables_1) B.pre
    have hts : ∀ w ∈ lw_tbl, w.before #[Value.ref b] s = true := k2_hts_sels lw_privs (fun w hw => hts0 w (List.mem_cons_of_mem _ hw)) lw_privs_ok
    have hml : c.maxLocals = 4 := B.maxLocals_eq (hts0 _ List.mem_cons_self)
    have X₀ : Stand p l e room_1 s m #[Value.ref b] below meth c s₁ [] 0 0 := Stand.of_body B
    have hh0 : s₁.heap = s.heap := by rw [B.state]; rfl
    have hsz : scr.slots.size = xs.length := by rw [← Array.length_toList, hlist, List.length_map]
    have hval : ∀ j : Nat, j < xs.length → scr.slots[j]? = some (.int (xs.getD j 0)) := fun j hj => by
      rw [← Array.getElem?_toList, hlist]
      simp [hj]
    have hbl : b < s.heap.size := (Array.getElem?_eq_some_iff.mp hcb).1
    have hX : va_X b xs.length (fun j => xs.getD j 0) s s.heap := ⟨scr, hcb, hof, hkn, hsz, hval⟩
    have K : W p l e room_1 s m #[Value.ref b] below meth c s₁.heap [] 0 0 (lw_Z below #[Value.ref b] s) (entryFrame m ([Value.ref b] : List Value).toArray 4) := by
      rw [hh0]
      exact whole_start l hbd ⟨B.exec, B.bytes, B.returns, hml, hown, hts, hX, hbl, B.notSynchronized, hgv⟩
    obtain ⟨t, a1, o, b1, b2, b3⟩ := K s₁ rfl X₀
    exact ⟨t, o, a1, b1, b2, b3⟩
theorem lw_pre_spec {args : Array Value} {s : State} (h : (Jvm.Cond.and given_1 narrow_1).before args s = true) (hr : rest_1_c.before args s = true) : ∃ (b : Addr) (xs : List Int32), lw_P b xs args s := by
  have hs := flat_of_before _ h
  have hq := flat_of_before _ hr
  have hc : (Cond.count 1).before args s = true := hs _ (by decide +kernel)
  have harr : (Cond.arrayOf (.arg 0) .int).before args s = true := hs _ (by decide +kernel)
  have hle : (Cond.le (.length (.arg 0)) (.int 2560)).before args s = true := hs _ (by decide +kernel)
  have hlen : (Cond.isInt (.length (.arg 0))).before args s = true := hq _ (by decide +kernel)
  have hall : (Cond.all (.arg 0) (.isInt (.elem (.arg 0) (.index 0)))).before args s = true := hq _ (by decide +kernel)
  obtain ⟨b, xs, hb, hx⟩ := State.ints_of_pre rfl harr hlen hall
  have hsm : xs.length < 2 ^ 31 := hx.choose_spec.2.2.2
  have hev : (Term.length (.arg 0)).eval args s none [] s = some (.int xs.length.toInt32) := hx.length_eval hb
  have hv := Cond.le_ints hev (show (Term.int 2560).eval args s none [] s = some (.int 2560) from rfl)
  have hd : xs.length.toInt32 ≤ 2560 := by
    simpa [Cond.before, Cond.holds, hv] using hle
  have hN : xs.length ≤ 2560 := (Int32.ofNat_le_ofNat hsm (by decide)).mp (show Int32.ofNat xs.length ≤ Int32.ofNat 2560 from hd)
  exact ⟨b, xs, Cond.one_arg hc (show args[0]? = some (.ref b) from hb), hx, hN, h⟩
theorem lw_comes (l : Launch) : Comes l x (Jvm.Cond.code x code maxLocals ret :: tables_1) room_1 (fun tb e args s => Calls_1 tb e args s ∧ rest_1 tb e args s ∧ Pre_1 tb e args s)
    (fun _ _ args s o t => lw_Q args s o t) := by
  intro p e ha hc hk s m args below hf hfit hheap happ hpre
  obtain ⟨b, xs, hP⟩ := lw_pre_spec hpre.2.2 hpre.2.1
  obtain ⟨k, o, h1, h2, h3, hQ⟩ := lw_walk l b xs p e ha hc hk s m args below hf ((Spec.applies_iff_loose hf).mp happ).1 hP trivial
  exact ⟨k, o, h1, h2, h3, hQ⟩
theorem lw_frame {s t : State} {o : Outcome} {args : Array Value} (h : Framed s o t [] 661274 7118426) :
    Framed s o t (fieldLocs frame_1_writes args s ++ arrayLocs frame_1_arrays args s ++ staticLocs frame_1_statics s) 661274 7118426 := h
theorem lw_limb (L : Cond) (hL : ∀ (args : Array Value) (s t : State), L.after args s (.returned (some (.int 1))) t = true) :
    ArmFor flags0 classFile x code maxLocals ret World_1 tables_1 room_1 Calls_1 rest_1 Pre_1
      (fun tb e a s o t => postC L tb e a s o t ∧ Framed s o t (fieldLocs frame_1_writes a s ++ arrayLocs frame_1_arrays a s ++ staticLocs frame_1_statics s) 661274 7118426) := by
  intro l _ _ _ p e ha hc hk s m args below hf hfit hheap happ hpre
  obtain ⟨k, o, h1, h2, h3, rfl, hF⟩ := lw_comes l p e ha hc hk s m args below hf hfit hheap happ hpre
  exact ⟨k, _, h1, h2, h3, hL args s _, lw_frame hF⟩
theorem i_vc : Claimed_1_1 ∧ Claimed_1_2 := ⟨lw_limb limb_1_1 (fun args s t => by simp [limb_1_1, Cond.after, Cond.holds, Cond.value]), lw_limb limb_1_2 (fun args s t => Cond.after_iff.mpr (by
  first | (rw [show limb_1_2 = Cond.eq .result (.int 1) from rfl, Cond.eq_ints (x := 1) (y := 1) rfl rfl]; simp; done) | (simp [limb_1_2, Cond.value, Term.eval]; done)))⟩
end
